section
/-! sums and counts over the first n naturals -/
def la_sm (f : Nat → Nat) : Nat → Nat
  | 0 => 0
  | n + 1 => la_sm f n + f n
def la_cn (p : Nat → Bool) (n : Nat) : Nat := la_sm (fun j => if p j then 1 else 0) n
theorem la_sm_congr {f g : Nat → Nat} : ∀ {n : Nat}, (∀ j, j < n → f j = g j) → la_sm f n = la_sm g n
  | 0, _ => rfl
  | n + 1, h => by
    show la_sm f n + f n = la_sm g n + g n
    rw [la_sm_congr (fun j hj => h j (by omega)), h n (by omega)]
theorem la_sm_le {f g : Nat → Nat} : ∀ {n : Nat}, (∀ j, j < n → f j ≤ g j) → la_sm f n ≤ la_sm g n
  | 0, _ => Nat.le_refl _
  | n + 1, h => by
    show la_sm f n + f n ≤ la_sm g n + g n
    have h1 := la_sm_le (n := n) (fun j hj => h j (by omega))
    have h2 := h n (by omega)
    omega
theorem la_sm_lt {f g : Nat → Nat} : ∀ {n a : Nat}, (∀ j, j < n → f j ≤ g j) → a < n → f a < g a → la_sm f n < la_sm g n
  | 0, _, _, ha, _ => absurd ha (by omega)
  | n + 1, a, h, ha, hl => by
    show la_sm f n + f n < la_sm g n + g n
    have h2 := h n (by omega)
    by_cases e : a = n
    · subst e
      have h1 := la_sm_le (n := a) (f := f) (g := g) (fun j hj => h j (by omega))
      omega
    · have h1 := la_sm_lt (n := n) (a := a) (f := f) (g := g) (fun j hj => h j (by omega)) (by omega) hl
      omega
theorem la_sm_zero {f : Nat → Nat} : ∀ {n : Nat}, (∀ j, j < n → f j = 0) → la_sm f n = 0
  | 0, _ => rfl
  | n + 1, h => by
    show la_sm f n + f n = 0
    rw [la_sm_zero (fun j hj => h j (by omega)), h n (by omega)]
theorem la_sm_add (f g : Nat → Nat) : ∀ n : Nat, la_sm (fun j => f j + g j) n = la_sm f n + la_sm g n
  | 0 => rfl
  | n + 1 => by
    show la_sm (fun j => f j + g j) n + (f n + g n) = (la_sm f n + f n) + (la_sm g n + g n)
    rw [la_sm_add f g n]
    omega
theorem la_sm_swap (f : Nat → Nat → Nat) (k : Nat) : ∀ n : Nat, la_sm (fun j => la_sm (fun s => f s j) k) n = la_sm (fun s => la_sm (fun j => f s j) n) k
  | 0 => (la_sm_zero (fun _ _ => rfl)).symm
  | n + 1 => by
    show la_sm (fun j => la_sm (fun s => f s j) k) n + la_sm (fun s => f s n) k = la_sm (fun s => la_sm (fun j => f s j) n + f s n) k
    rw [la_sm_swap f k n, la_sm_add]
theorem la_sm_one (c : Nat) {a : Nat} : ∀ {n : Nat}, a < n → la_sm (fun j => if a = j then c else 0) n = c
  | 0, h => absurd h (by omega)
  | n + 1, h => by
    show la_sm (fun j => if a = j then c else 0) n + (if a = n then c else 0) = c
    by_cases e : a = n
    · rw [if_pos e, la_sm_zero (fun j hj => if_neg (by omega))]
      omega
    · rw [if_neg e, la_sm_one c (show a < n by omega)]
      rfl
theorem la_sm_ext {f : Nat → Nat} {m : Nat} : ∀ {n : Nat}, m ≤ n → (∀ j, m ≤ j → j < n → f j = 0) → la_sm f n = la_sm f m
  | 0, h, _ => by
    have : m = 0 := by omega
    subst this
    rfl
  | n + 1, h, hz => by
    by_cases e : m = n + 1
    · rw [e]
    · show la_sm f n + f n = la_sm f m
      rw [hz n (by omega) (by omega), la_sm_ext (show m ≤ n by omega) (fun j h1 h2 => hz j h1 (by omega))]
      rfl
theorem la_sm_ones : ∀ n : Nat, la_sm (fun _ => 1) n = n
  | 0 => rfl
  | n + 1 => by
    show la_sm (fun _ => 1) n + 1 = n + 1
    rw [la_sm_ones n]
theorem la_sm_ge {f : Nat → Nat} : ∀ {n a : Nat}, a < n → f a ≤ la_sm f n
  | 0, _, h => absurd h (by omega)
  | n + 1, a, h => by
    show f a ≤ la_sm f n + f n
    by_cases e : a = n
    · rw [e]; omega
    · have := la_sm_ge (f := f) (show a < n by omega)
      omega
theorem la_cn_congr {p q : Nat → Bool} {n : Nat} (h : ∀ j, j < n → p j = q j) : la_cn p n = la_cn q n :=
  la_sm_congr (fun j hj => by rw [h j hj])
theorem la_cn_le (p : Nat → Bool) (n : Nat) : la_cn p n ≤ n := by
  have h : la_cn p n ≤ la_sm (fun _ => 1) n := la_sm_le (fun j _ => by split <;> omega)
  rw [la_sm_ones] at h
  exact h
theorem la_cn_pos {p : Nat → Bool} {n a : Nat} (ha : a < n) (h : p a = true) : 1 ≤ la_cn p n := by
  have h1 := la_sm_ge (f := fun j => if p j then 1 else 0) ha
  rw [if_pos h] at h1
  exact h1
theorem la_cn_succ (p : Nat → Bool) (n : Nat) : la_cn p (n + 1) = la_cn p n + (if p n then 1 else 0) := rfl
theorem la_cn_ext {p : Nat → Bool} {m n : Nat} (h : m ≤ n) (hz : ∀ j, m ≤ j → j < n → p j = false) : la_cn p n = la_cn p m :=
  la_sm_ext h (fun j h1 h2 => by rw [hz j h1 h2]; rfl)
/-- how many lines have the shape s -/
def la_c (S : Nat → Nat) (n s : Nat) : Nat := la_cn (fun j => decide (S j = s)) n
theorem la_c_le (S : Nat → Nat) (n s : Nat) : la_c S n s ≤ n := la_cn_le _ _
/-- lines counted shape by shape -/
theorem la_part (S : Nat → Nat) (p : Nat → Bool) {n k : Nat} (h : ∀ j, j < n → S j < k) : la_sm (fun s => la_cn (fun j => decide (S j = s) && p j) n) k = la_cn p n := by
  have e := la_sm_swap (fun s j => if (decide (S j = s) && p j) = true then 1 else 0) k n
  show la_sm (fun s => la_sm (fun j => if (decide (S j = s) && p j) = true then 1 else 0) n) k = la_sm (fun j => if p j then 1 else 0) n
  rw [← e]
  refine la_sm_congr (fun j hj => ?_)
  have e2 := la_sm_one (if p j then 1 else 0) (h j hj)
  rw [← e2]
  refine la_sm_congr (fun s _ => ?_)
  by_cases z : S j = s
  · rw [if_pos z]
    simp [z]
  · rw [if_neg z]
    simp [z]
theorem la_csum (S : Nat → Nat) {n k : Nat} (h : ∀ j, j < n → S j < k) : la_sm (fun s => la_c S n s) k = n := by
  have e := la_part S (fun _ => true) h
  have e1 : la_cn (fun _ => true) n = n := la_sm_ones n
  rw [e1] at e
  refine Eq.trans (la_sm_congr (fun s _ => la_cn_congr (fun j _ => ?_))) e
  rw [Bool.and_true]
/-! ranks: t stands ahead of s -/
def la_b (c : Nat → Nat) (t s : Nat) : Bool := decide (c s < c t ∨ (c t = c s ∧ t < s))
def la_r (c : Nat → Nat) (k s : Nat) : Nat := la_cn (fun t => la_b c t s) k
theorem la_b_iff {c : Nat → Nat} {t s : Nat} : la_b c t s = true ↔ (c s < c t ∨ (c t = c s ∧ t < s)) := by
  unfold la_b
  exact decide_eq_true_iff
theorem la_r_lt {c : Nat → Nat} {k t s : Nat} (ht : t < k) (h : la_b c t s = true) : la_r c k t < la_r c k s := by
  refine la_sm_lt (a := t) (fun j _ => ?_) ht ?_
  · by_cases z : la_b c j t = true
    · have z1 := la_b_iff.mp z
      have z2 := la_b_iff.mp h
      have z3 : la_b c j s = true := la_b_iff.mpr (by omega)
      rw [if_pos z, if_pos z3]
      exact Nat.le_refl _
    · rw [if_neg z]
      exact Nat.zero_le _
  · have z : ¬ la_b c t t = true := fun z => by
      have := la_b_iff.mp z
      omega
    rw [if_neg z, if_pos h]
    exact Nat.zero_lt_one
theorem la_r_tri {c : Nat → Nat} {t s : Nat} (h : t ≠ s) : la_b c t s = true ∨ la_b c s t = true := by
  rw [la_b_iff, la_b_iff]
  omega
theorem la_r_inj {c : Nat → Nat} {k t s : Nat} (ht : t < k) (hs : s < k) (h : la_r c k t = la_r c k s) : t = s := by
  by_cases e : t = s
  · exact e
  · rcases la_r_tri (c := c) e with z | z
    · have := la_r_lt ht z
      omega
    · have := la_r_lt hs z
      omega
theorem la_r_b {c : Nat → Nat} {k t s : Nat} (ht : t < k) (hs : s < k) (h : la_r c k t < la_r c k s) : c s < c t ∨ (c t = c s ∧ t < s) := by
  by_cases e : t = s
  · rw [e] at h
    omega
  · rcases la_r_tri (c := c) e with z | z
    · exact la_b_iff.mp z
    · have := la_r_lt hs z
      omega
theorem la_r_k {c : Nat → Nat} {k s : Nat} (hs : s < k) : la_r c k s < k := by
  have h : la_r c k s < la_sm (fun _ => 1) k := la_sm_lt (a := s) (fun j _ => by dsimp only; split <;> omega) hs (by
    have z : ¬ la_b c s s = true := fun z => by
      have := la_b_iff.mp z
      omega
    rw [if_neg z]
    exact Nat.zero_lt_one)
  rw [la_sm_ones] at h
  exact h
/-- what the shapes of rank j weigh -/
def la_g (c w : Nat → Nat) (k j : Nat) : Nat := la_sm (fun s => if la_r c k s = j then w s else 0) k
theorem la_g_at {c : Nat → Nat} (w : Nat → Nat) {k s : Nat} (hs : s < k) : la_g c w k (la_r c k s) = w s := by
  unfold la_g
  rw [← la_sm_one (w s) hs]
  refine la_sm_congr (fun t ht => ?_)
  by_cases e : s = t
  · rw [if_pos e, if_pos (by rw [e]), e]
  · rw [if_neg e, if_neg (fun z => e (la_r_inj hs ht z.symm))]
theorem la_g_none {c : Nat → Nat} (w : Nat → Nat) {k j : Nat} (h : ∀ s, s < k → la_r c k s ≠ j) : la_g c w k j = 0 :=
  la_sm_zero (fun s hs => if_neg (h s hs))
theorem la_g_sum (c w : Nat → Nat) (k : Nat) : la_sm (fun j => la_g c w k j) k = la_sm w k := by
  have e := la_sm_swap (fun s j => if la_r c k s = j then w s else 0) k k
  refine Eq.trans e (la_sm_congr (fun s hs => ?_))
  exact la_sm_one (w s) (la_r_k hs)
theorem la_g_le1 (c : Nat → Nat) (k j : Nat) : la_g c (fun _ => 1) k j ≤ 1 := by
  by_cases h : ∃ s, s < k ∧ la_r c k s = j
  · obtain ⟨s, hs, e⟩ := h
    rw [← e, la_g_at _ hs]
    exact Nat.le_refl _
  · rw [la_g_none _ (fun s hs e => h ⟨s, hs, e⟩)]
    omega
theorem la_r_sur {c : Nat → Nat} {k j : Nat} (hj : j < k) : ∃ s, s < k ∧ la_r c k s = j := by
  by_cases h : ∃ s, s < k ∧ la_r c k s = j
  · exact h
  · have e := la_g_sum c (fun _ => 1) k
    have e0 : la_g c (fun _ => 1) k j = 0 := la_g_none _ (fun s hs e => h ⟨s, hs, e⟩)
    have e1 : la_sm (fun j => la_g c (fun _ => 1) k j) k < la_sm (fun _ => 1) k := la_sm_lt (a := j) (fun i _ => la_g_le1 c k i) hj (by omega)
    omega
/-! first lines -/
def la_fst (S : Nat → Nat) (s f : Nat) : Prop := S f = s ∧ ∀ j, j < f → S j ≠ s
theorem la_fst_u {S : Nat → Nat} {s f g : Nat} (h : la_fst S s f) (h' : la_fst S s g) : f = g := by
  rcases Nat.lt_trichotomy f g with z | z | z
  · exact absurd h.1 (h'.2 f z)
  · exact z
  · exact absurd h'.1 (h.2 g z)
theorem la_fst_lt {S : Nat → Nat} {n s t f g : Nat} (ho : ∀ l, l < n → ∀ s, s < S l → ∃ m, m < l ∧ S m = s) (h : la_fst S s f) (h' : la_fst S t g) (hg : g < n) (hs : s < t) : f < g := by
  obtain ⟨m, hm, e⟩ := ho g hg s (by rw [h'.1]; exact hs)
  rcases Nat.lt_or_ge m f with z | z
  · exact absurd e (h.2 m z)
  · omega
/-! items -/
def la_bl (x : Nat) : Nat := if x < 1000 then x else 1000
def la_ok (x : Nat) : Prop := x < 24 ∨ (1000 ≤ x ∧ x < 2000)
theorem la_ok_lt {x : Nat} (h : la_ok x) : x < 2000 := by
  rcases h with z | z <;> omega
theorem la_bl_eq {x : Nat} (h : la_ok x) : la_bl x = 1000 ↔ 1000 ≤ x := by
  unfold la_bl
  rcases h with z | z
  · rw [if_pos (by omega)]; omega
  · rw [if_neg (by omega)]; omega
theorem la_bl_w {x : Nat} (h : x < 1000) : la_bl x = x := if_pos h
theorem la_bl_n {x : Nat} (h : 1000 ≤ x) : la_bl x = 1000 := if_neg (by omega)
theorem la_alike {a b : Nat} (ha : la_ok a) (hb : la_ok b) : la_bl a = la_bl b ↔ (a = b ∨ (1000 ≤ a ∧ 1000 ≤ b)) := by
  unfold la_bl
  rcases ha with z | z <;> rcases hb with y | y
  · rw [if_pos (by omega), if_pos (by omega)]; omega
  · rw [if_pos (by omega), if_neg (by omega)]; omega
  · rw [if_neg (by omega), if_pos (by omega)]; omega
  · rw [if_neg (by omega), if_neg (by omega)]; omega
def la_row (x : List Nat) : Prop := 1 ≤ x.length ∧ x.length ≤ 8 ∧ ∀ y, y ∈ x → la_ok y
theorem la_get_ok {x : List Nat} (h : la_row x) {i : Nat} (hi : i < x.length) : la_ok (x.getD i 0) := by
  rw [List.getD_eq_getElem?_getD, List.getElem?_eq_getElem hi]
  exact h.2.2 _ (List.getElem_mem hi)
theorem la_getD {x : List Nat} {i : Nat} (hi : i < x.length) : x.getD i 0 = x[i] := by
  rw [List.getD_eq_getElem?_getD, List.getElem?_eq_getElem hi]
  rfl
theorem la_getD_map {x : List Nat} {i : Nat} (hi : i < x.length) : (x.map la_bl).getD i 0 = la_bl (x.getD i 0) := by
  rw [la_getD hi, la_getD (by rw [List.length_map]; exact hi), List.getElem_map]
theorem la_ext {x y : List Nat} (hl : x.length = y.length) (h : ∀ i, i < x.length → x.getD i 0 = y.getD i 0) : x = y := by
  refine List.ext_getElem hl (fun i h1 h2 => ?_)
  rw [← la_getD h1, ← la_getD h2]
  exact h i h1
/-- the number that stood last in the column i of the shape s, ahead of the line l -/
def la_V (S : Nat → Nat) (X : Nat → List Nat) (s i : Nat) : Nat → Nat
  | 0 => 0
  | l + 1 => if S l = s then (X l).getD i 0 - 1000 else la_V S X s i l
theorem la_V_y {S : Nat → Nat} {X : Nat → List Nat} {s i l : Nat} (h : S l = s) : la_V S X s i (l + 1) = (X l).getD i 0 - 1000 := if_pos h
theorem la_V_n {S : Nat → Nat} {X : Nat → List Nat} {s i l : Nat} (h : S l ≠ s) : la_V S X s i (l + 1) = la_V S X s i l := if_neg h
theorem la_V_congr {S S' : Nat → Nat} {X X' : Nat → List Nat} {s i : Nat} : ∀ {l : Nat}, (∀ j, j < l → S' j = S j) → (∀ j, j < l → X' j = X j) → la_V S' X' s i l = la_V S X s i l
  | 0, _, _ => rfl
  | l + 1, hS, hX => by
    show (if S' l = s then (X' l).getD i 0 - 1000 else la_V S' X' s i l) = (if S l = s then (X l).getD i 0 - 1000 else la_V S X s i l)
    rw [hS l (by omega), hX l (by omega), la_V_congr (fun j hj => hS j (by omega)) (fun j hj => hX j (by omega))]
theorem la_V_new {S : Nat → Nat} {X : Nat → List Nat} {s i : Nat} : ∀ {l : Nat}, (∀ j, j < l → S j ≠ s) → la_V S X s i l = 0
  | 0, _ => rfl
  | l + 1, h => by
    rw [la_V_n (h l (by omega)), la_V_new (fun j hj => h j (by omega))]
theorem la_getD_lt {x : List Nat} (h : ∀ y, y ∈ x → la_ok y) (i : Nat) : x.getD i 0 < 2000 := by
  rcases Nat.lt_or_ge i x.length with z | z
  · rw [la_getD z]
    exact la_ok_lt (h _ (List.getElem_mem z))
  · rw [List.getD_eq_getElem?_getD, List.getElem?_eq_none z]
    exact Nat.zero_lt_succ _
theorem la_V_lt {S : Nat → Nat} {X : Nat → List Nat} {s i : Nat} : ∀ {l : Nat}, (∀ j, j < l → la_row (X j)) → la_V S X s i l < 1000
  | 0, _ => by
    show 0 < 1000
    omega
  | l + 1, h => by
    by_cases e : S l = s
    · rw [la_V_y e]
      have := la_getD_lt (h l (by omega)).2.2 i
      omega
    · rw [la_V_n e]
      exact la_V_lt (fun j hj => h j (by omega))
/-! codes -/
def la_cd (v x : Nat) : Nat := if v ≤ x then 2 * (x - v) else 2 * (v - x) - 1
theorem la_cd_lt {v x : Nat} (hv : v < 1000) (hx : x < 1000) : la_cd v x < 2048 := by
  unfold la_cd
  split <;> omega
def la_dc (c : Nat) : Int32 := if c % 2 = 0 then nI (c / 2) else -nI ((c + 1) / 2)
theorem la_dc_cd {v x : Nat} : nI v + la_dc (la_cd v x) = nI x := by
  unfold la_cd
  by_cases h : v ≤ x
  · rw [if_pos h]
    unfold la_dc
    rw [if_pos (by omega), nI_add]
    congr 1
    omega
  · rw [if_neg h]
    unfold la_dc
    rw [if_neg (by omega)]
    have e : (2 * (v - x) - 1 + 1) / 2 = v - x := by omega
    rw [e, ← Int32.sub_eq_add_neg, pk_sub (by omega)]
    congr 1
    omega
def la_en (a : Nat → Int32) (p c q : Nat) : Prop := (c < 128 ∧ q = p + 1 ∧ a p &&& 255 = nI c) ∨ (128 ≤ c ∧ q = p + 2 ∧ a p &&& 255 = nI (c % 128 + 128) ∧ a (p + 1) &&& 255 = nI (c / 128))
theorem la_en_keep {a a' : Nat → Int32} {p c q : Nat} (h : la_en a p c q) (hk : ∀ j, p ≤ j → j < q → a' j = a j) : la_en a' p c q := by
  rcases h with ⟨h1, h2, h3⟩ | ⟨h1, h2, h3, h4⟩
  · exact Or.inl ⟨h1, h2, by rw [hk p (by omega) (by omega)]; exact h3⟩
  · exact Or.inr ⟨h1, h2, by rw [hk p (by omega) (by omega)]; exact h3, by rw [hk (p + 1) (by omega) (by omega)]; exact h4⟩
theorem la_en_q {a : Nat → Int32} {p c q : Nat} (h : la_en a p c q) : p < q ∧ q ≤ p + 2 := by
  rcases h with ⟨h1, h2, h3⟩ | ⟨h1, h2, h3, h4⟩ <;> omega
theorem la_k1 : ∀ c, c < 128 → (nI c).toInt8.toInt32 &&& 255 = nI c := by decide +kernel
theorem la_k2 : ∀ c, c < 2048 → ((nI c &&& 127) ||| 128).toInt8.toInt32 &&& 255 = nI (c % 128 + 128) := by decide +kernel
theorem la_k3 : ∀ c, c < 2048 → (nI c >>> ((7 : Int32) &&& 31)).toInt8.toInt32 &&& 255 = nI (c / 128) := by decide +kernel
theorem la_k4 : ∀ c, c < 2048 → (nI (c % 128 + 128) &&& 127) ||| (nI (c / 128) <<< ((7 : Int32) &&& 31)) = nI c := by decide +kernel
theorem la_k5 : ∀ c, c < 2048 → (c % 2 = 0 → nI c &&& 1 = 0) ∧ (c % 2 = 1 → nI c &&& 1 = 1) := by decide +kernel
theorem la_k6 : ∀ c, c < 2049 → nI c >>> ((1 : Int32) &&& 31) = nI (c / 2) := by decide +kernel
end
section
/-! bits of a long -/
def la_bt (w : Int64) (j : Nat) : Bool := w.toBitVec.getLsbD j
theorem la_bt_or (w v : Int64) (j : Nat) : la_bt (w ||| v) j = (la_bt w j || la_bt v j) := by
  unfold la_bt
  rw [Int64.toBitVec_or, BitVec.getLsbD_or]
theorem la_bt_and (w v : Int64) (j : Nat) : la_bt (w &&& v) j = (la_bt w j && la_bt v j) := by
  unfold la_bt
  rw [Int64.toBitVec_and, BitVec.getLsbD_and]
theorem la_bt_0 (j : Nat) : la_bt 0 j = false := by
  unfold la_bt
  exact BitVec.getLsbD_zero
theorem la_one : ∀ l, l < 64 → ((1 : Int64) <<< ((nI l).toInt64 &&& 63)).toBitVec = BitVec.twoPow 64 l := by decide +kernel
theorem la_bt_one {l j : Nat} (hl : l < 64) : la_bt ((1 : Int64) <<< ((nI l).toInt64 &&& 63)) j = decide (l = j) := by
  unfold la_bt
  rw [la_one l hl, BitVec.getLsbD_twoPow]
  simp [hl]
theorem la_smod : ∀ k, k < 64 → (((nI k).toInt64 &&& 63).toBitVec.smod 64).toNat = k := by decide +kernel
theorem la_shr0 (w : Int64) {k : Nat} (hk : k < 64) : la_bt (w >>> ((nI k).toInt64 &&& 63)) 0 = la_bt w k := by
  unfold la_bt
  rw [Int64.toBitVec_shiftRight, BitVec.sshiftRight_eq', la_smod k hk, BitVec.getLsbD_sshiftRight]
  simp [hk]
theorem la_and1 (y : Int64) : y &&& 1 = if la_bt y 0 = true then 1 else 0 := by
  apply Int64.toBitVec_inj.mp
  rw [Int64.toBitVec_and]
  show y.toBitVec &&& 1#64 = _
  rw [BitVec.and_one_eq_setWidth_ofBool_getLsbD]
  unfold la_bt
  cases y.toBitVec.getLsbD 0 <;> rfl
theorem la_and1i (y : Int64) : y.toInt32 &&& 1 = if la_bt y 0 = true then 1 else 0 := by
  apply Int32.toBitVec_inj.mp
  rw [Int32.toBitVec_and]
  show (y.toBitVec.signExtend 32) &&& 1#32 = _
  rw [BitVec.and_one_eq_setWidth_ofBool_getLsbD, BitVec.getLsbD_signExtend]
  unfold la_bt
  rw [if_pos (show 0 < 64 by omega)]
  cases y.toBitVec.getLsbD 0 <;> rfl
theorem la_ones_s (w : Int64) {i m : Nat} (hi : i < 64) : nI m + ((w >>> ((nI i).toInt64 &&& 63)).toInt32 &&& 1) = nI (m + if la_bt w i = true then 1 else 0) := by
  rw [la_and1i, la_shr0 w hi]
  by_cases h : la_bt w i = true
  · rw [if_pos h, if_pos h]
    exact nI_1 m
  · rw [if_neg h, if_neg h]
    exact Int32.add_zero _
theorem la_low_s (w : Int64) {i : Nat} (hi : i < 64) : ((w >>> ((nI i).toInt64 &&& 63)) &&& 1 = 0) ↔ la_bt w i = false := by
  rw [la_and1, la_shr0 w hi]
  cases la_bt w i <;> decide
theorem la_msk : ∀ b, b < 64 → ∀ j, j < 64 → la_bt ((((1 : Int64) <<< ((nI b).toInt64 &&& 63)) - 1) ^^^ (-1)) j = decide (b ≤ j) := by decide +kernel
theorem la_and0 (x y : Int64) : x &&& y = 0 ↔ ∀ j, j < 64 → ¬ (la_bt x j = true ∧ la_bt y j = true) := by
  constructor
  · intro h j _ hc
    have e := la_bt_and x y j
    rw [h, la_bt_0, hc.1, hc.2] at e
    exact absurd e (by decide)
  · intro h
    apply Int64.toBitVec_inj.mp
    apply BitVec.eq_of_getLsbD_eq
    intro j hj
    have e := la_bt_and x y j
    have e0 := la_bt_0 j
    unfold la_bt at e e0
    rw [e, e0]
    have hc := h j hj
    unfold la_bt at hc
    cases h1 : x.toBitVec.getLsbD j
    · rfl
    · cases h2 : y.toBitVec.getLsbD j
      · rfl
      · exact absurd ⟨h1, h2⟩ hc
theorem la_find (p : Nat → Bool) : ∀ m : Nat, ∃ k, k ≤ m ∧ (∀ j, j < k → p j = false) ∧ (k < m → p k = true)
  | 0 => ⟨0, Nat.le_refl 0, fun j h => absurd h (by omega), fun h => absurd h (by omega)⟩
  | m + 1 => by
    obtain ⟨d, h1, h2, h3⟩ := la_find p m
    by_cases hd : d < m
    · exact ⟨d, by omega, h2, fun _ => h3 hd⟩
    · by_cases he : p d = true
      · exact ⟨d, by omega, h2, fun _ => he⟩
      · refine ⟨d + 1, by omega, fun j hj => ?_, fun h => absurd h (by omega)⟩
        by_cases e : j = d
        · rw [e]
          exact Bool.eq_false_iff.mpr he
        · exact h2 j (by omega)
/-! ones and lowest -/
theorem la_ones {post : Int32 → Prop} {w : Int64} (H : post (nI (la_cn (la_bt w) 60))) : wpX_ones post () w := by
  unfold wpX_ones
  exact pk_loop (σ := Nat) (fun n i m => wX_ones_4 post w n (nI m) (nI i)) (fun i m => m = la_cn (la_bt w) i) 60 0 0 (by omega) rfl
    (fun n m h => pk_le 60 60 (fun _ => by rw [h]; exact H) (fun z => absurd z (by omega)))
    (fun n i m hi h hw => pk_le 60 i (fun z => absurd z (by omega)) (fun _ => nm_r (la_ones_s w (by omega)) (nm_r (nI_1 i) (hw _ (by rw [h]; rfl)))))
theorem la_lowest {post : Int32 → Prop} {w : Int64} (H : ∀ k, k ≤ 60 → (∀ j, j < k → la_bt w j = false) → (k < 60 → la_bt w k = true) → post (nI k)) : wpX_lowest post () w := by
  unfold wpX_lowest
  obtain ⟨k, h1, h2, h3⟩ := la_find (la_bt w) 60
  exact pk_loop (σ := Unit) (fun n i _ => wX_lowest_2 post w n (nI i)) (fun _ _ => True) k 0 () (by omega) trivial
    (fun n _ _ => pk_le 60 k (fun _ => H k h1 h2 h3) (fun z => br_f (fun e => by
      have e' := (la_low_s w (show k < 64 by omega)).mp e
      rw [h3 z] at e'
      exact absurd e' (by decide)) (H k h1 h2 h3)))
    (fun n i _ hi _ hw => pk_le 60 i (fun z => absurd z (by omega)) (fun z => br_t ((la_low_s w (by omega)).mpr (h2 i hi)) (nm_r (nI_1 i) (hw () trivial))))
end
section
/-! states -/
/-- all but from, read, numbers and the rests -/
def la_q (u : St1) := ((u.1, u.2.1, u.2.2.1, u.2.2.2.1, u.2.2.2.2.1, u.2.2.2.2.2.1, u.2.2.2.2.2.2.1), (u.2.2.2.2.2.2.2.2.1, u.2.2.2.2.2.2.2.2.2.1, u.2.2.2.2.2.2.2.2.2.2.1, u.2.2.2.2.2.2.2.2.2.2.2.1, u.2.2.2.2.2.2.2.2.2.2.2.2.1, u.2.2.2.2.2.2.2.2.2.2.2.2.2.1, u.2.2.2.2.2.2.2.2.2.2.2.2.2.2.1, u.2.2.2.2.2.2.2.2.2.2.2.2.2.2.2.1), (u.2.2.2.2.2.2.2.2.2.2.2.2.2.2.2.2.1, u.2.2.2.2.2.2.2.2.2.2.2.2.2.2.2.2.2.1, u.2.2.2.2.2.2.2.2.2.2.2.2.2.2.2.2.2.2.1, u.2.2.2.2.2.2.2.2.2.2.2.2.2.2.2.2.2.2.2.1, u.2.2.2.2.2.2.2.2.2.2.2.2.2.2.2.2.2.2.2.2.1, u.2.2.2.2.2.2.2.2.2.2.2.2.2.2.2.2.2.2.2.2.2.1, u.2.2.2.2.2.2.2.2.2.2.2.2.2.2.2.2.2.2.2.2.2.2.1))
/-- all but from, read, numbers -/
def la_q1 (u : St1) := (la_q u, u.2.2.2.2.2.2.2.2.2.2.2.2.2.2.2.2.2.2.2.2.2.2.2.2.2.1, u.2.2.2.2.2.2.2.2.2.2.2.2.2.2.2.2.2.2.2.2.2.2.2.2.2.2.1, u.2.2.2.2.2.2.2.2.2.2.2.2.2.2.2.2.2.2.2.2.2.2.2.2.2.2.2)
theorem la_newNode {post : Int32 → St1 → Prop} {u : St1} {x : Int32} (N : Nat) (hN : u.2.2.2.2.1 = nI N) (h : N < 484) (H : post (nI N) (u.1, u.2.1, u.2.2.1, u.2.2.2.1, nI (N + 1), u.2.2.2.2.2.1, u.2.2.2.2.2.2.1, u.2.2.2.2.2.2.2.1, u.2.2.2.2.2.2.2.2.1, u.2.2.2.2.2.2.2.2.2.1, u.2.2.2.2.2.2.2.2.2.2.1, u.2.2.2.2.2.2.2.2.2.2.2.1, u.2.2.2.2.2.2.2.2.2.2.2.2.1, u.2.2.2.2.2.2.2.2.2.2.2.2.2.1, u.2.2.2.2.2.2.2.2.2.2.2.2.2.2.1, u.2.2.2.2.2.2.2.2.2.2.2.2.2.2.2.1, u.2.2.2.2.2.2.2.2.2.2.2.2.2.2.2.2.1, u.2.2.2.2.2.2.2.2.2.2.2.2.2.2.2.2.2.1, u.2.2.2.2.2.2.2.2.2.2.2.2.2.2.2.2.2.2.1, upd u.2.2.2.2.2.2.2.2.2.2.2.2.2.2.2.2.2.2.2.1 N x, upd u.2.2.2.2.2.2.2.2.2.2.2.2.2.2.2.2.2.2.2.2.1 N (-1), upd u.2.2.2.2.2.2.2.2.2.2.2.2.2.2.2.2.2.2.2.2.2.1 N (-1), upd u.2.2.2.2.2.2.2.2.2.2.2.2.2.2.2.2.2.2.2.2.2.2.1 N (-1), u.2.2.2.2.2.2.2.2.2.2.2.2.2.2.2.2.2.2.2.2.2.2.2.1, u.2.2.2.2.2.2.2.2.2.2.2.2.2.2.2.2.2.2.2.2.2.2.2.2.1, u.2.2.2.2.2.2.2.2.2.2.2.2.2.2.2.2.2.2.2.2.2.2.2.2.2.1, u.2.2.2.2.2.2.2.2.2.2.2.2.2.2.2.2.2.2.2.2.2.2.2.2.2.2.1, u.2.2.2.2.2.2.2.2.2.2.2.2.2.2.2.2.2.2.2.2.2.2.2.2.2.2.2)) : wpX_newNode post u x := by
  unfold wpX_newNode
  refine ⟨pk_in N 484 h hN, nm_e ⟨pk_in N 484 h hN, nm_e ⟨pk_in N 484 h hN, nm_e ⟨pk_in N 484 h hN, nm_e (nm_e ?_)⟩⟩⟩⟩
  rw [hN, nI_clamp (by omega), nI_1, nI_pred]
  exact H
theorem la_empty {post : St1 → Prop} {u : St1} (H : ∀ b : Nat → Int64, (∀ w, w < 24 → b w = 0) → post (u.1, u.2.1, 0, 0, nI 1, 0, u.2.2.2.2.2.2.1, u.2.2.2.2.2.2.2.1, u.2.2.2.2.2.2.2.2.1, u.2.2.2.2.2.2.2.2.2.1, u.2.2.2.2.2.2.2.2.2.2.1, u.2.2.2.2.2.2.2.2.2.2.2.1, upd u.2.2.2.2.2.2.2.2.2.2.2.2.1 0 0, u.2.2.2.2.2.2.2.2.2.2.2.2.2.1, u.2.2.2.2.2.2.2.2.2.2.2.2.2.2.1, u.2.2.2.2.2.2.2.2.2.2.2.2.2.2.2.1, u.2.2.2.2.2.2.2.2.2.2.2.2.2.2.2.2.1, u.2.2.2.2.2.2.2.2.2.2.2.2.2.2.2.2.2.1, b, upd u.2.2.2.2.2.2.2.2.2.2.2.2.2.2.2.2.2.2.2.1 0 (-1), upd u.2.2.2.2.2.2.2.2.2.2.2.2.2.2.2.2.2.2.2.2.1 0 (-1), upd u.2.2.2.2.2.2.2.2.2.2.2.2.2.2.2.2.2.2.2.2.2.1 0 (-1), upd u.2.2.2.2.2.2.2.2.2.2.2.2.2.2.2.2.2.2.2.2.2.2.1 0 (-1), u.2.2.2.2.2.2.2.2.2.2.2.2.2.2.2.2.2.2.2.2.2.2.2.1, u.2.2.2.2.2.2.2.2.2.2.2.2.2.2.2.2.2.2.2.2.2.2.2.2.1, u.2.2.2.2.2.2.2.2.2.2.2.2.2.2.2.2.2.2.2.2.2.2.2.2.2.1, u.2.2.2.2.2.2.2.2.2.2.2.2.2.2.2.2.2.2.2.2.2.2.2.2.2.2.1, u.2.2.2.2.2.2.2.2.2.2.2.2.2.2.2.2.2.2.2.2.2.2.2.2.2.2.2)) : wpX_empty post u := by
  unfold wpX_empty
  refine nm_e (la_newNode 0 rfl (by omega) ?_)
  exact pk_loop (σ := Nat → Int64) (fun n i b => wX_empty_30 post u.1 u.2.1 0 0 (nI 1) u.2.2.2.2.2.1 u.2.2.2.2.2.2.1 u.2.2.2.2.2.2.2.1 n (nI i) u.2.2.2.2.2.2.2.2.1 u.2.2.2.2.2.2.2.2.2.1 u.2.2.2.2.2.2.2.2.2.2.1 u.2.2.2.2.2.2.2.2.2.2.2.1 (upd u.2.2.2.2.2.2.2.2.2.2.2.2.1 0 0) u.2.2.2.2.2.2.2.2.2.2.2.2.2.1 u.2.2.2.2.2.2.2.2.2.2.2.2.2.2.1 u.2.2.2.2.2.2.2.2.2.2.2.2.2.2.2.1 u.2.2.2.2.2.2.2.2.2.2.2.2.2.2.2.2.1 u.2.2.2.2.2.2.2.2.2.2.2.2.2.2.2.2.2.1 (b) (upd u.2.2.2.2.2.2.2.2.2.2.2.2.2.2.2.2.2.2.2.1 0 (-1)) (upd u.2.2.2.2.2.2.2.2.2.2.2.2.2.2.2.2.2.2.2.2.1 0 (-1)) (upd u.2.2.2.2.2.2.2.2.2.2.2.2.2.2.2.2.2.2.2.2.2.1 0 (-1)) (upd u.2.2.2.2.2.2.2.2.2.2.2.2.2.2.2.2.2.2.2.2.2.2.1 0 (-1)) u.2.2.2.2.2.2.2.2.2.2.2.2.2.2.2.2.2.2.2.2.2.2.2.1 u.2.2.2.2.2.2.2.2.2.2.2.2.2.2.2.2.2.2.2.2.2.2.2.2.1 u.2.2.2.2.2.2.2.2.2.2.2.2.2.2.2.2.2.2.2.2.2.2.2.2.2.1 u.2.2.2.2.2.2.2.2.2.2.2.2.2.2.2.2.2.2.2.2.2.2.2.2.2.2.1 u.2.2.2.2.2.2.2.2.2.2.2.2.2.2.2.2.2.2.2.2.2.2.2.2.2.2.2) (fun i b => ∀ w, w < i → b w = 0) 24 0 u.2.2.2.2.2.2.2.2.2.2.2.2.2.2.2.2.2.2.1 (by omega) (fun w h => absurd h (by omega))
    (fun n b h => pk_le 24 24 (fun _ => H b h) (fun z => absurd z (by omega)))
    (fun n i b hi h hw => pk_le 24 i (fun z => absurd z (by omega)) (fun _ => ⟨pk_in i 24 hi, nm_e (nm_r (nI_1 i) (hw _ (fun w hw' => by
      rw [nI_clamp (by omega)]
      by_cases e : w = i
      · rw [e, pk_uLs]
      · rw [pk_uLn e]
        exact h w (by omega))))⟩))
theorem la_isLine {post : Int32 → Prop} {u : St1} {n l : Nat} (hn : u.2.2.1 = nI n) (hb : n ≤ 60) (hl : l < n) (H : post 1) : wpX_isLine post u (nI l) := by
  unfold wpX_isLine
  exact br_f (nI_pos (by omega)) (pk_le n l (fun z => absurd z (by omega)) (fun _ => H) hn)
end
section
/-! the tree of shapes -/
/-- one place of a picture put anew -/
def la_p {α : Type} (f : Nat → α) (n : Nat) (x : α) : Nat → α := fun j => if j = n then x else f j
theorem la_p_s {α : Type} {f : Nat → α} {n : Nat} {x : α} : la_p f n x n = x := if_pos rfl
theorem la_p_n {α : Type} {f : Nat → α} {n j : Nat} {x : α} (h : j ≠ n) : la_p f n x j = f j := if_neg h
/-- v is the last child of p below b, or -1 -/
def la_ch (par : Nat → Nat) (p b : Nat) (v : Int32) : Prop :=
  (v = -1 ∧ ∀ c, 0 < c → c < b → par c ≠ p) ∨ (∃ c, 0 < c ∧ c < b ∧ v = nI c ∧ par c = p ∧ ∀ d, c < d → d < b → par d ≠ p)
theorem la_ch_congr {par par' : Nat → Nat} {p b : Nat} {v : Int32} (h : la_ch par p b v) (e : ∀ d, d < b → par' d = par d) : la_ch par' p b v := by
  rcases h with ⟨h1, h2⟩ | ⟨c, h1, h2, h3, h4, h5⟩
  · exact Or.inl ⟨h1, fun c c0 cb => by rw [e c cb]; exact h2 c c0 cb⟩
  · exact Or.inr ⟨c, h1, h2, h3, by rw [e c h2]; exact h4, fun d d1 d2 => by rw [e d d2]; exact h5 d d1 d2⟩
def la_tree (N : Nat) (par it : Nat → Nat) (pt : Nat → List Nat) (a12 a13 a14 : Nat → Int32) : Prop :=
  1 ≤ N ∧ pt 0 = [] ∧ (∀ c, 0 < c → c < N → par c < c ∧ pt c = pt (par c) ++ [it c] ∧ it c < 2000 ∧ a12 c = nI (it c) ∧ la_ch par (par c) c (a14 c)) ∧ (∀ p, p < N → la_ch par p N (a13 p)) ∧ (∀ c d, c < N → d < N → pt c = pt d → c = d)
theorem la_tree_add {N : Nat} {par it : Nat → Nat} {pt : Nat → List Nat} {a12 a13 a14 : Nat → Int32} {p x : Nat} (h : la_tree N par it pt a12 a13 a14) (hp : p < N) (hx : x < 2000)
    (hn : ∀ d, 0 < d → d < N → par d = p → it d ≠ x) :
    la_tree (N + 1) (la_p par N p) (la_p it N x) (la_p pt N (pt p ++ [x])) (upd a12 N (nI x)) (upd (upd a13 N (-1)) p (nI N)) (upd (upd a14 N (-1)) N (a13 p)) := by
  obtain ⟨h1, h2, h3, h4, h5⟩ := h
  have hnew : ∀ d, d < N → pt d ≠ pt p ++ [x] := by
    intro d hd e
    by_cases d0 : d = 0
    · subst d0
      rw [h2] at e
      exact absurd e.symm (List.append_ne_nil_of_right_ne_nil _ (by simp))
    · obtain ⟨g1, g2, g3, g4, g5⟩ := h3 d (by omega) hd
      rw [g2] at e
      obtain ⟨e1, e2⟩ := List.append_inj' e rfl
      have e3 : par d = p := h5 _ _ (by omega) hp e1
      exact hn d (by omega) hd e3 (by simpa using e2)
  refine ⟨by omega, by rw [la_p_n (by omega)]; exact h2, fun c c0 cN => ?_, fun q hq => ?_, fun c d hc hd e => ?_⟩
  · by_cases e : c = N
    · subst e
      rw [la_p_s, la_p_s, la_p_s, la_p_n (by omega), pk_us, pk_us]
      exact ⟨hp, rfl, hx, rfl, la_ch_congr (h4 p hp) (fun d hd => la_p_n (by omega))⟩
    · obtain ⟨g1, g2, g3, g4, g5⟩ := h3 c c0 (by omega)
      rw [la_p_n e, la_p_n e, la_p_n e, la_p_n (by omega), pk_un e, pk_un e, pk_un e]
      exact ⟨g1, g2, g3, g4, la_ch_congr g5 (fun d hd => la_p_n (by omega))⟩
  · by_cases e : q = p
    · subst e
      rw [pk_us]
      exact Or.inr ⟨N, by omega, by omega, rfl, la_p_s, fun d d1 d2 => absurd d1 (by omega)⟩
    · rw [pk_un e]
      by_cases eN : q = N
      · subst eN
        rw [pk_us]
        refine Or.inl ⟨rfl, fun c c0 cq => ?_⟩
        by_cases ec : c = q
        · rw [ec, la_p_s]
          omega
        · rw [la_p_n ec]
          have := (h3 c c0 (by omega)).1
          omega
      · rw [pk_un eN]
        rcases h4 q (by omega) with ⟨g1, g2⟩ | ⟨c, g1, g2, g3, g4, g5⟩
        · refine Or.inl ⟨g1, fun c c0 cN => ?_⟩
          by_cases ec : c = N
          · rw [ec, la_p_s]
            omega
          · rw [la_p_n ec]
            exact g2 c c0 (by omega)
        · refine Or.inr ⟨c, g1, by omega, g3, by rw [la_p_n (by omega)]; exact g4, fun d d1 d2 => ?_⟩
          by_cases ec : d = N
          · rw [ec, la_p_s]
            omega
          · rw [la_p_n ec]
            exact g5 d d1 (by omega)
  · by_cases ec : c = N
    · by_cases ed : d = N
      · rw [ec, ed]
      · rw [ec, la_p_s, la_p_n ed] at e
        exact absurd e.symm (hnew d (by omega))
    · by_cases ed : d = N
      · rw [ed, la_p_s, la_p_n ec] at e
        exact absurd e (hnew c (by omega))
      · rw [la_p_n ec, la_p_n ed] at e
        exact h5 c d (by omega) (by omega) e
/-- the tree, and which shape ends at which node -/
def la_T (N : Nat) (pt : Nat → List Nat) (k : Nat) (SL : Nat → List Nat) (nd : Int32) (a12 a13 a14 a15 : Nat → Int32) : Prop :=
  nd = nI N ∧ (∃ par it, la_tree N par it pt a12 a13 a14) ∧ (∀ c, c < N → a15 c = -1 ∨ ∃ s, s < k ∧ a15 c = nI s ∧ SL s = pt c) ∧ (∀ s, s < k → ∃ c, c < N ∧ a15 c = nI s ∧ pt c = SL s)
theorem la_stepTo_31 {post : Int32 → St1 → Prop} {u : St1} {N p x k : Nat} {par it : Nat → Nat} {pt SL : Nat → List Nat} (hN : N < 484) (hp : p < N) (hx : x < 2000)
    (hnd : u.2.2.2.2.1 = nI N) (ht : la_tree N par it pt u.2.2.2.2.2.2.2.2.2.2.2.2.2.2.2.2.2.2.2.1 u.2.2.2.2.2.2.2.2.2.2.2.2.2.2.2.2.2.2.2.2.1 u.2.2.2.2.2.2.2.2.2.2.2.2.2.2.2.2.2.2.2.2.2.1)
    (he : ∀ c, c < N → u.2.2.2.2.2.2.2.2.2.2.2.2.2.2.2.2.2.2.2.2.2.2.1 c = -1 ∨ ∃ s, s < k ∧ u.2.2.2.2.2.2.2.2.2.2.2.2.2.2.2.2.2.2.2.2.2.2.1 c = nI s ∧ SL s = pt c) (hs : ∀ s, s < k → ∃ c, c < N ∧ u.2.2.2.2.2.2.2.2.2.2.2.2.2.2.2.2.2.2.2.2.2.2.1 c = nI s ∧ pt c = SL s)
    (hn : ∀ d, 0 < d → d < N → par d = p → it d ≠ x)
    (H : ∀ pt' nd b12 b13 b14 b15, la_T (N + 1) pt' k SL nd b12 b13 b14 b15 → pt' N = pt p ++ [x] → post (nI N) (u.1, u.2.1, u.2.2.1, u.2.2.2.1, nd, u.2.2.2.2.2.1, u.2.2.2.2.2.2.1, u.2.2.2.2.2.2.2.1, u.2.2.2.2.2.2.2.2.1, u.2.2.2.2.2.2.2.2.2.1, u.2.2.2.2.2.2.2.2.2.2.1, u.2.2.2.2.2.2.2.2.2.2.2.1, u.2.2.2.2.2.2.2.2.2.2.2.2.1, u.2.2.2.2.2.2.2.2.2.2.2.2.2.1, u.2.2.2.2.2.2.2.2.2.2.2.2.2.2.1, u.2.2.2.2.2.2.2.2.2.2.2.2.2.2.2.1, u.2.2.2.2.2.2.2.2.2.2.2.2.2.2.2.2.1, u.2.2.2.2.2.2.2.2.2.2.2.2.2.2.2.2.2.1, u.2.2.2.2.2.2.2.2.2.2.2.2.2.2.2.2.2.2.1, b12, b13, b14, b15, u.2.2.2.2.2.2.2.2.2.2.2.2.2.2.2.2.2.2.2.2.2.2.2.1, u.2.2.2.2.2.2.2.2.2.2.2.2.2.2.2.2.2.2.2.2.2.2.2.2.1, u.2.2.2.2.2.2.2.2.2.2.2.2.2.2.2.2.2.2.2.2.2.2.2.2.2.1, u.2.2.2.2.2.2.2.2.2.2.2.2.2.2.2.2.2.2.2.2.2.2.2.2.2.2.1, u.2.2.2.2.2.2.2.2.2.2.2.2.2.2.2.2.2.2.2.2.2.2.2.2.2.2.2)) :
    wX_stepTo_31 post (nI p) (nI x) (-1) u.1 u.2.1 u.2.2.1 u.2.2.2.1 u.2.2.2.2.1 u.2.2.2.2.2.1 u.2.2.2.2.2.2.1 u.2.2.2.2.2.2.2.1 u.2.2.2.2.2.2.2.2.1 u.2.2.2.2.2.2.2.2.2.1 u.2.2.2.2.2.2.2.2.2.2.1 u.2.2.2.2.2.2.2.2.2.2.2.1 u.2.2.2.2.2.2.2.2.2.2.2.2.1 u.2.2.2.2.2.2.2.2.2.2.2.2.2.1 u.2.2.2.2.2.2.2.2.2.2.2.2.2.2.1 u.2.2.2.2.2.2.2.2.2.2.2.2.2.2.2.1 u.2.2.2.2.2.2.2.2.2.2.2.2.2.2.2.2.1 u.2.2.2.2.2.2.2.2.2.2.2.2.2.2.2.2.2.1 u.2.2.2.2.2.2.2.2.2.2.2.2.2.2.2.2.2.2.1 u.2.2.2.2.2.2.2.2.2.2.2.2.2.2.2.2.2.2.2.1 u.2.2.2.2.2.2.2.2.2.2.2.2.2.2.2.2.2.2.2.2.1 u.2.2.2.2.2.2.2.2.2.2.2.2.2.2.2.2.2.2.2.2.2.1 u.2.2.2.2.2.2.2.2.2.2.2.2.2.2.2.2.2.2.2.2.2.2.1 u.2.2.2.2.2.2.2.2.2.2.2.2.2.2.2.2.2.2.2.2.2.2.2.1 u.2.2.2.2.2.2.2.2.2.2.2.2.2.2.2.2.2.2.2.2.2.2.2.2.1 u.2.2.2.2.2.2.2.2.2.2.2.2.2.2.2.2.2.2.2.2.2.2.2.2.2.1 u.2.2.2.2.2.2.2.2.2.2.2.2.2.2.2.2.2.2.2.2.2.2.2.2.2.2.1 u.2.2.2.2.2.2.2.2.2.2.2.2.2.2.2.2.2.2.2.2.2.2.2.2.2.2.2 := by
  unfold wX_stepTo_31
  refine br_f (by decide) (la_newNode N hnd hN ?_)
  refine ⟨pk_in p 484 (by omega), pk_in N 484 (by omega), nm_e ⟨pk_in p 484 (by omega), nm_e ?_⟩⟩
  dsimp only
  rw [nI_clamp (show p < 2 ^ 31 by omega), nI_clamp (show N < 2 ^ 31 by omega), pk_un (show p ≠ N by omega)]
  refine H (la_p pt N (pt p ++ [x])) _ _ _ _ _ ⟨rfl, ⟨_, _, la_tree_add ht hp hx hn⟩, fun c hc => ?_, fun s hs' => ?_⟩ la_p_s
  · by_cases e : c = N
    · rw [e, pk_us]
      exact Or.inl rfl
    · rw [pk_un e, la_p_n e]
      exact he c (by omega)
  · obtain ⟨c, hc, g1, g2⟩ := hs s hs'
    exact ⟨c, by omega, by rw [pk_un (by omega)]; exact g1, by rw [la_p_n (by omega)]; exact g2⟩
theorem la_stepTo {post : Int32 → St1 → Prop} {u : St1} {N p x k : Nat} {pt SL : Nat → List Nat} (hN : N < 484) (hp : p < N) (hx : x < 2000)
    (hT : la_T N pt k SL u.2.2.2.2.1 u.2.2.2.2.2.2.2.2.2.2.2.2.2.2.2.2.2.2.2.1 u.2.2.2.2.2.2.2.2.2.2.2.2.2.2.2.2.2.2.2.2.1 u.2.2.2.2.2.2.2.2.2.2.2.2.2.2.2.2.2.2.2.2.2.1 u.2.2.2.2.2.2.2.2.2.2.2.2.2.2.2.2.2.2.2.2.2.2.1)
    (H : ∀ N' pt' c nd b12 b13 b14 b15, N ≤ N' → N' ≤ N + 1 → c < N' → la_T N' pt' k SL nd b12 b13 b14 b15 → pt' c = pt p ++ [x] → post (nI c) (u.1, u.2.1, u.2.2.1, u.2.2.2.1, nd, u.2.2.2.2.2.1, u.2.2.2.2.2.2.1, u.2.2.2.2.2.2.2.1, u.2.2.2.2.2.2.2.2.1, u.2.2.2.2.2.2.2.2.2.1, u.2.2.2.2.2.2.2.2.2.2.1, u.2.2.2.2.2.2.2.2.2.2.2.1, u.2.2.2.2.2.2.2.2.2.2.2.2.1, u.2.2.2.2.2.2.2.2.2.2.2.2.2.1, u.2.2.2.2.2.2.2.2.2.2.2.2.2.2.1, u.2.2.2.2.2.2.2.2.2.2.2.2.2.2.2.1, u.2.2.2.2.2.2.2.2.2.2.2.2.2.2.2.2.1, u.2.2.2.2.2.2.2.2.2.2.2.2.2.2.2.2.2.1, u.2.2.2.2.2.2.2.2.2.2.2.2.2.2.2.2.2.2.1, b12, b13, b14, b15, u.2.2.2.2.2.2.2.2.2.2.2.2.2.2.2.2.2.2.2.2.2.2.2.1, u.2.2.2.2.2.2.2.2.2.2.2.2.2.2.2.2.2.2.2.2.2.2.2.2.1, u.2.2.2.2.2.2.2.2.2.2.2.2.2.2.2.2.2.2.2.2.2.2.2.2.2.1, u.2.2.2.2.2.2.2.2.2.2.2.2.2.2.2.2.2.2.2.2.2.2.2.2.2.2.1, u.2.2.2.2.2.2.2.2.2.2.2.2.2.2.2.2.2.2.2.2.2.2.2.2.2.2.2)) :
    wpX_stepTo post u (nI p) (nI x) := by
  have hT' := hT
  obtain ⟨hnd, ⟨par, it, ht⟩, he, hs⟩ := hT'
  have ht' := ht
  obtain ⟨h1, h2, h3, h4, h5⟩ := ht'
  have key : ∀ f b v, b ≤ N → b < f → la_ch par p b v → (∀ d, 0 < d → b ≤ d → d < N → par d = p → it d ≠ x) → wX_stepTo_7 post (nI p) (nI x) u.1 u.2.1 u.2.2.1 u.2.2.2.1 u.2.2.2.2.1 u.2.2.2.2.2.1 u.2.2.2.2.2.2.1 u.2.2.2.2.2.2.2.1 u.2.2.2.2.2.2.2.2.1 u.2.2.2.2.2.2.2.2.2.1 u.2.2.2.2.2.2.2.2.2.2.1 u.2.2.2.2.2.2.2.2.2.2.2.1 u.2.2.2.2.2.2.2.2.2.2.2.2.1 u.2.2.2.2.2.2.2.2.2.2.2.2.2.1 u.2.2.2.2.2.2.2.2.2.2.2.2.2.2.1 u.2.2.2.2.2.2.2.2.2.2.2.2.2.2.2.1 u.2.2.2.2.2.2.2.2.2.2.2.2.2.2.2.2.1 u.2.2.2.2.2.2.2.2.2.2.2.2.2.2.2.2.2.1 u.2.2.2.2.2.2.2.2.2.2.2.2.2.2.2.2.2.2.1 u.2.2.2.2.2.2.2.2.2.2.2.2.2.2.2.2.2.2.2.1 u.2.2.2.2.2.2.2.2.2.2.2.2.2.2.2.2.2.2.2.2.1 u.2.2.2.2.2.2.2.2.2.2.2.2.2.2.2.2.2.2.2.2.2.1 u.2.2.2.2.2.2.2.2.2.2.2.2.2.2.2.2.2.2.2.2.2.2.1 u.2.2.2.2.2.2.2.2.2.2.2.2.2.2.2.2.2.2.2.2.2.2.2.1 u.2.2.2.2.2.2.2.2.2.2.2.2.2.2.2.2.2.2.2.2.2.2.2.2.1 u.2.2.2.2.2.2.2.2.2.2.2.2.2.2.2.2.2.2.2.2.2.2.2.2.2.1 u.2.2.2.2.2.2.2.2.2.2.2.2.2.2.2.2.2.2.2.2.2.2.2.2.2.2.1 u.2.2.2.2.2.2.2.2.2.2.2.2.2.2.2.2.2.2.2.2.2.2.2.2.2.2.2 f v := by
    intro f
    induction f with
    | zero => intro b v _ hb; omega
    | succ f ih =>
      intro b v hb hf hv hno
      rcases hv with ⟨g1, g2⟩ | ⟨c, g1, g2, g3, g4, g5⟩
      · subst g1
        refine br_t (by decide) (la_stepTo_31 hN hp hx hnd ht he hs (fun d d0 dN e => ?_) (fun pt' nd b12 b13 b14 b15 g g' => H (N + 1) pt' N nd b12 b13 b14 b15 (by omega) (by omega) (by omega) g g'))
        rcases Nat.lt_or_ge d b with z | z
        · exact absurd e (g2 d d0 z)
        · exact hno d d0 z dN e
      · subst g3
        obtain ⟨k1, k2, k3, k4, k5⟩ := h3 c g1 (by omega)
        refine br_f (nI_pos (by omega)) ⟨pk_in c 484 (by omega), ?_⟩
        rw [nI_clamp (show c < 2 ^ 31 by omega), k4]
        refine pk_eq (it c) x (fun e => ?_) (fun e => ⟨pk_in c 484 (by omega), nm_e ?_⟩)
        · unfold wX_stepTo_31
          refine br_t (nI_pos' (by omega)) ?_
          exact H N pt c u.2.2.2.2.1 u.2.2.2.2.2.2.2.2.2.2.2.2.2.2.2.2.2.2.2.1 u.2.2.2.2.2.2.2.2.2.2.2.2.2.2.2.2.2.2.2.2.1 u.2.2.2.2.2.2.2.2.2.2.2.2.2.2.2.2.2.2.2.2.2.1 u.2.2.2.2.2.2.2.2.2.2.2.2.2.2.2.2.2.2.2.2.2.2.1 (by omega) (by omega) (by omega) hT (by rw [k2, g4, e])
        · rw [g4] at k5
          refine ih c _ (by omega) (by omega) k5 (fun d d0 dc dN ed => ?_)
          by_cases z : d = c
          · rw [z]
            exact e
          · rcases Nat.lt_or_ge d b with y | y
            · exact absurd ed (g5 d (by omega) y)
            · exact hno d d0 y dN ed
  unfold wpX_stepTo
  refine ⟨pk_in p 484 (by omega), nm_e ⟨N + 1, ?_⟩⟩
  rw [nI_clamp (show p < 2 ^ 31 by omega)]
  exact key (N + 1) N _ (by omega) (by omega) (h4 p hp) (fun d _ z1 z2 => absurd z1 (by omega))
end
section
/-! the picture: n lines, k shapes; T times, X items, S shapes of lines, SL shapes -/
def la_A (n k : Nat) (T : Nat → Nat) (X : Nat → List Nat) (S : Nat → Nat) (SL : Nat → List Nat) : Prop :=
  n ≤ 60 ∧ k ≤ 60 ∧ (∀ l, l < n → la_row (X l) ∧ T l ≤ 1000 ∧ S l < k ∧ SL (S l) = (X l).map la_bl) ∧ (∀ s t, s < k → t < k → SL s = SL t → s = t) ∧ (∀ s, s < k → (SL s).length ≤ 8)
def la_O (n k : Nat) (S : Nat → Nat) : Prop := k ≤ n ∧ (∀ s, s < k → ∃ l, l < n ∧ S l = s) ∧ (∀ l, l < n → ∀ s, s < S l → ∃ m, m < l ∧ S m = s)
def la_B (n k : Nat) (T : Nat → Nat) (X : Nat → List Nat) (S : Nat → Nat) (SL : Nat → List Nat) (a3 a4 a7 a8 : Nat → Int32) (a9 a11 : Nat → Int64) : Prop :=
  (∀ l, l < n → a3 l = nI (T l) ∧ a4 l = nI (S l)) ∧ (∀ s, s < k → a7 s = nI (SL s).length ∧ (∀ i, i < (SL s).length → a8 (8 * s + i) = nI ((SL s).getD i 0)) ∧ (∀ j, j < 64 → la_bt (a9 s) j = decide (j < n ∧ S j = s))) ∧ (∀ w, w < 24 → ∀ j, j < 64 → la_bt (a11 w) j = decide (j < n ∧ w ∈ X j))
def la_enc (a : Nat → Int32) (x : List Nat) (v : Nat → Nat) (p i q : Nat) : Prop :=
  ∃ P : Nat → Nat, P 0 = p ∧ P i = q ∧ p ≤ q ∧ q ≤ p + 2 * i ∧ ∀ j, j < i → P (j + 1) ≤ q ∧ (1000 ≤ x.getD j 0 → la_en a (P j) (la_cd (v j) (x.getD j 0 - 1000)) (P (j + 1))) ∧ (x.getD j 0 < 1000 → P (j + 1) = P j)
def la_C (n k : Nat) (X : Nat → List Nat) (S : Nat → Nat) (SL : Nat → List Nat) (a5 a6 a10 : Nat → Int32) : Prop :=
  (∃ B : Nat → Nat, B 0 = 0 ∧ (∀ l, l ≤ n → a5 l = nI (B l) ∧ B l ≤ 16 * l ∧ B l ≤ B n) ∧ (∀ l, l < n → la_enc a6 (X l) (fun i => la_V S X (S l) i l) (B l) (X l).length (B (l + 1)))) ∧ (∀ s, s < k → ∀ i, i < (SL s).length → (SL s).getD i 0 = 1000 → a10 (8 * s + i) = nI (la_V S X s i n))
def la_D (M k : Nat) (SL : Nat → List Nat) (nd : Int32) (a12 a13 a14 a15 : Nat → Int32) : Prop := ∃ N pt, N ≤ M ∧ la_T N pt k SL nd a12 a13 a14 a15
def la_I1 (M n k : Nat) (T : Nat → Nat) (X : Nat → List Nat) (S : Nat → Nat) (SL : Nat → List Nat) (u : St1) : Prop :=
  la_A n k T X S SL ∧ u.2.2.1 = nI n ∧ u.2.2.2.1 = nI k ∧ la_B n k T X S SL u.2.2.2.2.2.2.2.2.2.2.1 u.2.2.2.2.2.2.2.2.2.2.2.1 u.2.2.2.2.2.2.2.2.2.2.2.2.2.2.1 u.2.2.2.2.2.2.2.2.2.2.2.2.2.2.2.1 u.2.2.2.2.2.2.2.2.2.2.2.2.2.2.2.2.1 u.2.2.2.2.2.2.2.2.2.2.2.2.2.2.2.2.2.2.1 ∧ la_C n k X S SL u.2.2.2.2.2.2.2.2.2.2.2.2.1 u.2.2.2.2.2.2.2.2.2.2.2.2.2.1 u.2.2.2.2.2.2.2.2.2.2.2.2.2.2.2.2.2.1 ∧ la_D M k SL u.2.2.2.2.1 u.2.2.2.2.2.2.2.2.2.2.2.2.2.2.2.2.2.2.2.1 u.2.2.2.2.2.2.2.2.2.2.2.2.2.2.2.2.2.2.2.2.1 u.2.2.2.2.2.2.2.2.2.2.2.2.2.2.2.2.2.2.2.2.2.1 u.2.2.2.2.2.2.2.2.2.2.2.2.2.2.2.2.2.2.2.2.2.2.1
def la_I (n k : Nat) (T : Nat → Nat) (X : Nat → List Nat) (S : Nat → Nat) (SL : Nat → List Nat) (u : St1) : Prop := la_I1 (1 + 8 * n) n k T X S SL u ∧ la_O n k S
theorem la_I1_q {M n k : Nat} {T : Nat → Nat} {X : Nat → List Nat} {S : Nat → Nat} {SL : Nat → List Nat} {u u' : St1} (e : la_q u' = la_q u) (h : la_I1 M n k T X S SL u) : la_I1 M n k T X S SL u' := by
  unfold la_q at e
  unfold la_I1 at h ⊢
  simp only [Prod.mk.injEq] at e
  obtain ⟨⟨e1, e2, e3, e4, e5, e6, e7⟩, ⟨f1, f2, f3, f4, f5, f6, f7, f8⟩, g1, g2, g3, g4, g5, g6, g7⟩ := e
  rw [e3, e4, e5, f3, f4, f5, f6, f7, f8, g1, g2, g3, g4, g5, g6, g7]
  exact h
theorem la_I_q {n k : Nat} {T : Nat → Nat} {X : Nat → List Nat} {S : Nat → Nat} {SL : Nat → List Nat} {u u' : St1} (e : la_q u' = la_q u) (h : la_I n k T X S SL u) : la_I n k T X S SL u' :=
  ⟨la_I1_q e h.1, h.2⟩
/-- the draft -/
def la_dr (d : List Nat) (c : Int32) (a : Nat → Int32) : Prop := c = nI d.length ∧ ∀ i, i < d.length → a i = nI (d.getD i 0)
theorem la_ix (k i : Nat) : (8 * nI k) + nI i = nI (8 * k + i) := by
  show nI 8 * nI k + nI i = _
  rw [pk_mul, nI_add]
theorem la_isNumber {post : Int32 → Prop} {x : Nat} (hx : la_ok x) (Hw : x < 24 → post 0) (Hn : 1000 ≤ x → x < 2000 → post 1) : wpX_isNumber post () (nI x) := by
  unfold wpX_isNumber
  have h2 := la_ok_lt hx
  refine pk_lt x 1000 (fun z => Hw ?_) (fun z => pk_le 2000 x (fun y => absurd y (by omega)) (fun _ => Hn z h2))
  rcases hx with y | y <;> omega
theorem la_blanked {post : Int32 → Prop} {x : Nat} (hx : la_ok x) (H : post (nI (la_bl x))) : wpX_blanked post () (nI x) := by
  unfold wpX_blanked
  refine la_isNumber hx (fun z => br_t rfl ?_) (fun z _ => br_f (by decide) ?_)
  · rw [la_bl_w (by omega)] at H
    exact H
  · rw [la_bl_n z] at H
    exact H
theorem la_sod79 {post : Int32 → St1 → Prop} {u : St1} {d : List Nat} {k c : Nat} (hd : la_row d) (hr : la_dr d u.1 u.2.2.2.2.2.2.2.2.1) (hk : k < 60) (hsh : u.2.2.2.1 = nI k) (hc : c < 484)
    (H : ∀ b8 b10 : Nat → Int32, (∀ i, i < d.length → b8 (8 * k + i) = nI (la_bl (d.getD i 0)) ∧ b10 (8 * k + i) = 0) → (∀ j, j < 8 * k → b8 j = u.2.2.2.2.2.2.2.2.2.2.2.2.2.2.2.1 j ∧ b10 j = u.2.2.2.2.2.2.2.2.2.2.2.2.2.2.2.2.2.1 j) → post (u.2.2.2.2.2.2.2.2.2.2.2.2.2.2.2.2.2.2.2.2.2.2.1 c) (u.1, u.2.1, u.2.2.1, nI (k + 1), u.2.2.2.2.1, u.2.2.2.2.2.1, u.2.2.2.2.2.2.1, u.2.2.2.2.2.2.2.1, u.2.2.2.2.2.2.2.2.1, u.2.2.2.2.2.2.2.2.2.1, u.2.2.2.2.2.2.2.2.2.2.1, u.2.2.2.2.2.2.2.2.2.2.2.1, u.2.2.2.2.2.2.2.2.2.2.2.2.1, u.2.2.2.2.2.2.2.2.2.2.2.2.2.1, u.2.2.2.2.2.2.2.2.2.2.2.2.2.2.1, b8, u.2.2.2.2.2.2.2.2.2.2.2.2.2.2.2.2.1, b10, u.2.2.2.2.2.2.2.2.2.2.2.2.2.2.2.2.2.2.1, u.2.2.2.2.2.2.2.2.2.2.2.2.2.2.2.2.2.2.2.1, u.2.2.2.2.2.2.2.2.2.2.2.2.2.2.2.2.2.2.2.2.1, u.2.2.2.2.2.2.2.2.2.2.2.2.2.2.2.2.2.2.2.2.2.1, u.2.2.2.2.2.2.2.2.2.2.2.2.2.2.2.2.2.2.2.2.2.2.1, u.2.2.2.2.2.2.2.2.2.2.2.2.2.2.2.2.2.2.2.2.2.2.2.1, u.2.2.2.2.2.2.2.2.2.2.2.2.2.2.2.2.2.2.2.2.2.2.2.2.1, u.2.2.2.2.2.2.2.2.2.2.2.2.2.2.2.2.2.2.2.2.2.2.2.2.2.1, u.2.2.2.2.2.2.2.2.2.2.2.2.2.2.2.2.2.2.2.2.2.2.2.2.2.2.1, u.2.2.2.2.2.2.2.2.2.2.2.2.2.2.2.2.2.2.2.2.2.2.2.2.2.2.2)) :
    ∃ n, wX_shapeOfDraft_79 post (nI c) u.1 u.2.1 u.2.2.1 u.2.2.2.1 u.2.2.2.2.1 u.2.2.2.2.2.1 u.2.2.2.2.2.2.1 u.2.2.2.2.2.2.2.1 n 0 u.2.2.2.2.2.2.2.2.1 u.2.2.2.2.2.2.2.2.2.1 u.2.2.2.2.2.2.2.2.2.2.1 u.2.2.2.2.2.2.2.2.2.2.2.1 u.2.2.2.2.2.2.2.2.2.2.2.2.1 u.2.2.2.2.2.2.2.2.2.2.2.2.2.1 u.2.2.2.2.2.2.2.2.2.2.2.2.2.2.1 u.2.2.2.2.2.2.2.2.2.2.2.2.2.2.2.1 u.2.2.2.2.2.2.2.2.2.2.2.2.2.2.2.2.1 u.2.2.2.2.2.2.2.2.2.2.2.2.2.2.2.2.2.1 u.2.2.2.2.2.2.2.2.2.2.2.2.2.2.2.2.2.2.1 u.2.2.2.2.2.2.2.2.2.2.2.2.2.2.2.2.2.2.2.1 u.2.2.2.2.2.2.2.2.2.2.2.2.2.2.2.2.2.2.2.2.1 u.2.2.2.2.2.2.2.2.2.2.2.2.2.2.2.2.2.2.2.2.2.1 u.2.2.2.2.2.2.2.2.2.2.2.2.2.2.2.2.2.2.2.2.2.2.1 u.2.2.2.2.2.2.2.2.2.2.2.2.2.2.2.2.2.2.2.2.2.2.2.1 u.2.2.2.2.2.2.2.2.2.2.2.2.2.2.2.2.2.2.2.2.2.2.2.2.1 u.2.2.2.2.2.2.2.2.2.2.2.2.2.2.2.2.2.2.2.2.2.2.2.2.2.1 u.2.2.2.2.2.2.2.2.2.2.2.2.2.2.2.2.2.2.2.2.2.2.2.2.2.2.1 u.2.2.2.2.2.2.2.2.2.2.2.2.2.2.2.2.2.2.2.2.2.2.2.2.2.2.2 := by
  obtain ⟨hl1, hl8, hok⟩ := hd
  obtain ⟨hdc, ha1⟩ := hr
  rw [hsh, hdc]
  refine pk_loop (σ := (Nat → Int32) × (Nat → Int32)) (fun n i s => wX_shapeOfDraft_79 post (nI c) (nI d.length) u.2.1 u.2.2.1 (nI k) u.2.2.2.2.1 u.2.2.2.2.2.1 u.2.2.2.2.2.2.1 u.2.2.2.2.2.2.2.1 n (nI i) u.2.2.2.2.2.2.2.2.1 u.2.2.2.2.2.2.2.2.2.1 u.2.2.2.2.2.2.2.2.2.2.1 u.2.2.2.2.2.2.2.2.2.2.2.1 u.2.2.2.2.2.2.2.2.2.2.2.2.1 u.2.2.2.2.2.2.2.2.2.2.2.2.2.1 u.2.2.2.2.2.2.2.2.2.2.2.2.2.2.1 (s.1) u.2.2.2.2.2.2.2.2.2.2.2.2.2.2.2.2.1 (s.2) u.2.2.2.2.2.2.2.2.2.2.2.2.2.2.2.2.2.2.1 u.2.2.2.2.2.2.2.2.2.2.2.2.2.2.2.2.2.2.2.1 u.2.2.2.2.2.2.2.2.2.2.2.2.2.2.2.2.2.2.2.2.1 u.2.2.2.2.2.2.2.2.2.2.2.2.2.2.2.2.2.2.2.2.2.1 u.2.2.2.2.2.2.2.2.2.2.2.2.2.2.2.2.2.2.2.2.2.2.1 u.2.2.2.2.2.2.2.2.2.2.2.2.2.2.2.2.2.2.2.2.2.2.2.1 u.2.2.2.2.2.2.2.2.2.2.2.2.2.2.2.2.2.2.2.2.2.2.2.2.1 u.2.2.2.2.2.2.2.2.2.2.2.2.2.2.2.2.2.2.2.2.2.2.2.2.2.1 u.2.2.2.2.2.2.2.2.2.2.2.2.2.2.2.2.2.2.2.2.2.2.2.2.2.2.1 u.2.2.2.2.2.2.2.2.2.2.2.2.2.2.2.2.2.2.2.2.2.2.2.2.2.2.2)
    (fun i s => (∀ j, j < i → s.1 (8 * k + j) = nI (la_bl (d.getD j 0)) ∧ s.2 (8 * k + j) = 0) ∧ (∀ j, j < 8 * k → s.1 j = u.2.2.2.2.2.2.2.2.2.2.2.2.2.2.2.1 j ∧ s.2 j = u.2.2.2.2.2.2.2.2.2.2.2.2.2.2.2.2.2.1 j)) d.length 0 (u.2.2.2.2.2.2.2.2.2.2.2.2.2.2.2.1, u.2.2.2.2.2.2.2.2.2.2.2.2.2.2.2.2.2.1) (by omega) ⟨fun j h => absurd h (by omega), fun j _ => ⟨rfl, rfl⟩⟩
    (fun n s h => ?_) (fun n i s hi h hw => ?_)
  · refine pk_le d.length d.length (fun _ => nm_r (nI_1 k) ⟨pk_in c 484 hc, ?_⟩) (fun z => absurd z (by omega))
    rw [nI_clamp (show c < 2 ^ 31 by omega), ← hdc]
    exact H s.1 s.2 h.1 h.2
  · refine pk_le d.length i (fun z => absurd z (by omega)) (fun _ => ⟨pk_in i 8 (by omega), ?_⟩)
    rw [nI_clamp (show i < 2 ^ 31 by omega), ha1 i hi]
    refine la_blanked (la_get_ok ⟨hl1, hl8, hok⟩ hi) ⟨pk_in (8 * k + i) 480 (by omega) (la_ix k i), nm_e ⟨pk_in (8 * k + i) 480 (by omega) (la_ix k i), nm_e (nm_r (nI_1 i) ?_)⟩⟩
    rw [pk_cl (8 * k + i) (la_ix k i)]
    refine hw (upd s.1 (8 * k + i) _, upd s.2 (8 * k + i) 0) ⟨fun j hj => ?_, fun j hj => ?_⟩
    · dsimp only
      by_cases e : j = i
      · rw [e, pk_us, pk_us]
        exact ⟨rfl, rfl⟩
      · rw [pk_un (by omega), pk_un (by omega)]
        exact h.1 j (by omega)
    · dsimp only
      rw [pk_un (by omega), pk_un (by omega)]
      exact h.2 j hj
theorem la_take_s {d : List Nat} {i : Nat} (hi : i < d.length) : (d.take (i + 1)).map la_bl = (d.take i).map la_bl ++ [la_bl (d.getD i 0)] := by
  rw [la_getD hi, List.take_succ_eq_append_getElem hi, List.map_append]
  rfl
theorem la_sod {post : Int32 → St1 → Prop} {u : St1} {d : List Nat} {k N : Nat} {pt SL : Nat → List Nat} (hd : la_row d) (hr : la_dr d u.1 u.2.2.2.2.2.2.2.2.1) (hk : k < 60) (hsh : u.2.2.2.1 = nI k) (hN : N + d.length ≤ 484)
    (hT : la_T N pt k SL u.2.2.2.2.1 u.2.2.2.2.2.2.2.2.2.2.2.2.2.2.2.2.2.2.2.1 u.2.2.2.2.2.2.2.2.2.2.2.2.2.2.2.2.2.2.2.2.1 u.2.2.2.2.2.2.2.2.2.2.2.2.2.2.2.2.2.2.2.2.2.1 u.2.2.2.2.2.2.2.2.2.2.2.2.2.2.2.2.2.2.2.2.2.2.1)
    (H1 : ∀ s N' pt' nd b12 b13 b14 b15, s < k → SL s = d.map la_bl → N' ≤ N + d.length → la_T N' pt' k SL nd b12 b13 b14 b15 → post (nI s) (u.1, u.2.1, u.2.2.1, u.2.2.2.1, nd, u.2.2.2.2.2.1, u.2.2.2.2.2.2.1, u.2.2.2.2.2.2.2.1, u.2.2.2.2.2.2.2.2.1, u.2.2.2.2.2.2.2.2.2.1, u.2.2.2.2.2.2.2.2.2.2.1, u.2.2.2.2.2.2.2.2.2.2.2.1, u.2.2.2.2.2.2.2.2.2.2.2.2.1, u.2.2.2.2.2.2.2.2.2.2.2.2.2.1, u.2.2.2.2.2.2.2.2.2.2.2.2.2.2.1, u.2.2.2.2.2.2.2.2.2.2.2.2.2.2.2.1, u.2.2.2.2.2.2.2.2.2.2.2.2.2.2.2.2.1, u.2.2.2.2.2.2.2.2.2.2.2.2.2.2.2.2.2.1, u.2.2.2.2.2.2.2.2.2.2.2.2.2.2.2.2.2.2.1, b12, b13, b14, b15, u.2.2.2.2.2.2.2.2.2.2.2.2.2.2.2.2.2.2.2.2.2.2.2.1, u.2.2.2.2.2.2.2.2.2.2.2.2.2.2.2.2.2.2.2.2.2.2.2.2.1, u.2.2.2.2.2.2.2.2.2.2.2.2.2.2.2.2.2.2.2.2.2.2.2.2.2.1, u.2.2.2.2.2.2.2.2.2.2.2.2.2.2.2.2.2.2.2.2.2.2.2.2.2.2.1, u.2.2.2.2.2.2.2.2.2.2.2.2.2.2.2.2.2.2.2.2.2.2.2.2.2.2.2))
    (H2 : ∀ N' pt' nd b8 b10 b12 b13 b14 b15, (∀ s, s < k → SL s ≠ d.map la_bl) → N' ≤ N + d.length → la_T N' pt' (k + 1) (la_p SL k (d.map la_bl)) nd b12 b13 b14 b15 →
      (∀ i, i < d.length → b8 (8 * k + i) = nI (la_bl (d.getD i 0)) ∧ b10 (8 * k + i) = 0) → (∀ j, j < 8 * k → b8 j = u.2.2.2.2.2.2.2.2.2.2.2.2.2.2.2.1 j ∧ b10 j = u.2.2.2.2.2.2.2.2.2.2.2.2.2.2.2.2.2.1 j) →
      post (nI k) (u.1, u.2.1, u.2.2.1, nI (k + 1), nd, u.2.2.2.2.2.1, u.2.2.2.2.2.2.1, u.2.2.2.2.2.2.2.1, u.2.2.2.2.2.2.2.2.1, u.2.2.2.2.2.2.2.2.2.1, u.2.2.2.2.2.2.2.2.2.2.1, u.2.2.2.2.2.2.2.2.2.2.2.1, u.2.2.2.2.2.2.2.2.2.2.2.2.1, u.2.2.2.2.2.2.2.2.2.2.2.2.2.1, upd u.2.2.2.2.2.2.2.2.2.2.2.2.2.2.1 k (nI d.length), b8, vp_updL u.2.2.2.2.2.2.2.2.2.2.2.2.2.2.2.2.1 k 0, b10, u.2.2.2.2.2.2.2.2.2.2.2.2.2.2.2.2.2.2.1, b12, b13, b14, b15, u.2.2.2.2.2.2.2.2.2.2.2.2.2.2.2.2.2.2.2.2.2.2.2.1, u.2.2.2.2.2.2.2.2.2.2.2.2.2.2.2.2.2.2.2.2.2.2.2.2.1, u.2.2.2.2.2.2.2.2.2.2.2.2.2.2.2.2.2.2.2.2.2.2.2.2.2.1, u.2.2.2.2.2.2.2.2.2.2.2.2.2.2.2.2.2.2.2.2.2.2.2.2.2.2.1, u.2.2.2.2.2.2.2.2.2.2.2.2.2.2.2.2.2.2.2.2.2.2.2.2.2.2.2)) :
    wpX_shapeOfDraft post u := by
  unfold wpX_shapeOfDraft
  have hr' := hr
  obtain ⟨hl1, hl8, hok⟩ := hd
  obtain ⟨hdc, ha1⟩ := hr'
  refine pk_loop (σ := Int32 × Int32 × (Nat → Int32) × (Nat → Int32) × (Nat → Int32) × (Nat → Int32)) (fun n i s => wX_shapeOfDraft_4 post n s.1 (nI i) u.1 u.2.1 u.2.2.1 u.2.2.2.1 (s.2.1) u.2.2.2.2.2.1 u.2.2.2.2.2.2.1 u.2.2.2.2.2.2.2.1 u.2.2.2.2.2.2.2.2.1 u.2.2.2.2.2.2.2.2.2.1 u.2.2.2.2.2.2.2.2.2.2.1 u.2.2.2.2.2.2.2.2.2.2.2.1 u.2.2.2.2.2.2.2.2.2.2.2.2.1 u.2.2.2.2.2.2.2.2.2.2.2.2.2.1 u.2.2.2.2.2.2.2.2.2.2.2.2.2.2.1 u.2.2.2.2.2.2.2.2.2.2.2.2.2.2.2.1 u.2.2.2.2.2.2.2.2.2.2.2.2.2.2.2.2.1 u.2.2.2.2.2.2.2.2.2.2.2.2.2.2.2.2.2.1 u.2.2.2.2.2.2.2.2.2.2.2.2.2.2.2.2.2.2.1 (s.2.2.1) (s.2.2.2.1) (s.2.2.2.2.1) (s.2.2.2.2.2) u.2.2.2.2.2.2.2.2.2.2.2.2.2.2.2.2.2.2.2.2.2.2.2.1 u.2.2.2.2.2.2.2.2.2.2.2.2.2.2.2.2.2.2.2.2.2.2.2.2.1 u.2.2.2.2.2.2.2.2.2.2.2.2.2.2.2.2.2.2.2.2.2.2.2.2.2.1 u.2.2.2.2.2.2.2.2.2.2.2.2.2.2.2.2.2.2.2.2.2.2.2.2.2.2.1 u.2.2.2.2.2.2.2.2.2.2.2.2.2.2.2.2.2.2.2.2.2.2.2.2.2.2.2)
    (fun i s => ∃ N' pt' c, s.1 = nI c ∧ c < N' ∧ N' ≤ N + i ∧ la_T N' pt' k SL s.2.1 s.2.2.1 s.2.2.2.1 s.2.2.2.2.1 s.2.2.2.2.2 ∧ pt' c = (d.take i).map la_bl) d.length 0 (nI 0, u.2.2.2.2.1, u.2.2.2.2.2.2.2.2.2.2.2.2.2.2.2.2.2.2.2.1, u.2.2.2.2.2.2.2.2.2.2.2.2.2.2.2.2.2.2.2.2.1, u.2.2.2.2.2.2.2.2.2.2.2.2.2.2.2.2.2.2.2.2.2.1, u.2.2.2.2.2.2.2.2.2.2.2.2.2.2.2.2.2.2.2.2.2.2.1) (by omega) ⟨N, pt, 0, rfl, ?_, by omega, hT, ?_⟩
    (fun n s h => ?_) (fun n i s hi h hw => ?_)
  · obtain ⟨_, ⟨par, it, ht⟩, _⟩ := hT
    exact ht.1
  · obtain ⟨_, ⟨par, it, ht⟩, _⟩ := hT
    exact ht.2.1
  · obtain ⟨N', pt', c, e1, hc, hN', hT', hpt⟩ := h
    obtain ⟨x1, nd, b12, b13, b14, b15⟩ := s
    dsimp only at e1 hT' ⊢
    subst e1
    rw [List.take_length] at hpt
    have hT2 := hT'
    obtain ⟨t1, ⟨par, it, t2⟩, t3, t4⟩ := hT2
    refine pk_le d.length d.length (fun _ => ⟨pk_in c 484 (by omega), ?_⟩) (fun z => absurd z (by omega)) hdc
    rw [nI_clamp (show c < 2 ^ 31 by omega)]
    rcases t3 c hc with g | ⟨s, hs, g1, g2⟩
    · rw [g]
      have hno : ∀ s, s < k → SL s ≠ d.map la_bl := by
        intro s hs e
        obtain ⟨c', q1, q2, q3⟩ := t4 s hs
        have e2 : c' = c := t2.2.2.2.2 c' c q1 hc (by rw [q3, hpt, e])
        rw [e2, g] at q2
        have q3 : nI s < 0 := by
          rw [← q2]
          decide
        exact nI_pos (by omega) q3
      refine br_f (by decide) ⟨pk_in c 484 (by omega), nm_e ⟨pk_in k 60 hk hsh, nm_e ⟨pk_in k 60 hk hsh, nm_e ?_⟩⟩⟩
      rw [hsh, nI_clamp (show k < 2 ^ 31 by omega)]
      refine la_sod79 (u := (u.1, u.2.1, u.2.2.1, nI k, nd, u.2.2.2.2.2.1, u.2.2.2.2.2.2.1, u.2.2.2.2.2.2.2.1, u.2.2.2.2.2.2.2.2.1, u.2.2.2.2.2.2.2.2.2.1, u.2.2.2.2.2.2.2.2.2.2.1, u.2.2.2.2.2.2.2.2.2.2.2.1, u.2.2.2.2.2.2.2.2.2.2.2.2.1, u.2.2.2.2.2.2.2.2.2.2.2.2.2.1, upd u.2.2.2.2.2.2.2.2.2.2.2.2.2.2.1 k u.1, u.2.2.2.2.2.2.2.2.2.2.2.2.2.2.2.1, vp_updL u.2.2.2.2.2.2.2.2.2.2.2.2.2.2.2.2.1 k 0, u.2.2.2.2.2.2.2.2.2.2.2.2.2.2.2.2.2.1, u.2.2.2.2.2.2.2.2.2.2.2.2.2.2.2.2.2.2.1, b12, b13, b14, upd b15 c (nI k), u.2.2.2.2.2.2.2.2.2.2.2.2.2.2.2.2.2.2.2.2.2.2.2.1, u.2.2.2.2.2.2.2.2.2.2.2.2.2.2.2.2.2.2.2.2.2.2.2.2.1, u.2.2.2.2.2.2.2.2.2.2.2.2.2.2.2.2.2.2.2.2.2.2.2.2.2.1, u.2.2.2.2.2.2.2.2.2.2.2.2.2.2.2.2.2.2.2.2.2.2.2.2.2.2.1, u.2.2.2.2.2.2.2.2.2.2.2.2.2.2.2.2.2.2.2.2.2.2.2.2.2.2.2)) ⟨hl1, hl8, hok⟩ hr hk rfl (by omega) (fun b8 b10 q1 q2 => ?_)
      have e15 : upd b15 c (nI k) c = nI k := pk_us
      dsimp only
      rw [e15, hdc]
      refine hdc ▸ H2 N' pt' nd b8 b10 b12 b13 b14 (upd b15 c (nI k)) hno hN' ⟨t1, ⟨par, it, t2⟩, fun e he => ?_, fun s hs => ?_⟩ q1 q2
      · by_cases ec : e = c
        · rw [ec, pk_us]
          exact Or.inr ⟨k, by omega, rfl, by rw [la_p_s, hpt]⟩
        · rw [pk_un ec]
          rcases t3 e he with g' | ⟨s, hs, g1, g2⟩
          · exact Or.inl g'
          · exact Or.inr ⟨s, by omega, g1, by rw [la_p_n (by omega)]; exact g2⟩
      · by_cases es : s = k
        · rw [es]
          exact ⟨c, hc, pk_us, by rw [la_p_s, hpt]⟩
        · obtain ⟨c', q1, q2, q3⟩ := t4 s (by omega)
          refine ⟨c', q1, ?_, by rw [la_p_n es]; exact q3⟩
          rw [pk_un (fun ec => ?_)]
          · exact q2
          · rw [ec, g] at q2
            have q3 : nI s < 0 := by
              rw [← q2]
              decide
            exact nI_pos (by omega) q3
    · rw [g1]
      refine br_t (nI_pos' (by omega)) ⟨pk_in c 484 (by omega), ?_⟩
      exact H1 s N' pt' nd b12 b13 b14 b15 hs (by rw [g2, hpt]) hN' hT'
  · obtain ⟨N', pt', c, e1, hc, hN', hT', hpt⟩ := h
    obtain ⟨x1, nd, b12, b13, b14, b15⟩ := s
    dsimp only at e1 hT' ⊢
    subst e1
    refine pk_le d.length i (fun z => absurd z (by omega)) (fun _ => ⟨pk_in i 8 (by omega), ?_⟩) hdc
    rw [nI_clamp (show i < 2 ^ 31 by omega), ha1 i hi]
    have hgo := la_get_ok ⟨hl1, hl8, hok⟩ hi
    refine la_blanked hgo (la_stepTo (u := (u.1, u.2.1, u.2.2.1, u.2.2.2.1, nd, u.2.2.2.2.2.1, u.2.2.2.2.2.2.1, u.2.2.2.2.2.2.2.1, u.2.2.2.2.2.2.2.2.1, u.2.2.2.2.2.2.2.2.2.1, u.2.2.2.2.2.2.2.2.2.2.1, u.2.2.2.2.2.2.2.2.2.2.2.1, u.2.2.2.2.2.2.2.2.2.2.2.2.1, u.2.2.2.2.2.2.2.2.2.2.2.2.2.1, u.2.2.2.2.2.2.2.2.2.2.2.2.2.2.1, u.2.2.2.2.2.2.2.2.2.2.2.2.2.2.2.1, u.2.2.2.2.2.2.2.2.2.2.2.2.2.2.2.2.1, u.2.2.2.2.2.2.2.2.2.2.2.2.2.2.2.2.2.1, u.2.2.2.2.2.2.2.2.2.2.2.2.2.2.2.2.2.2.1, b12, b13, b14, b15, u.2.2.2.2.2.2.2.2.2.2.2.2.2.2.2.2.2.2.2.2.2.2.2.1, u.2.2.2.2.2.2.2.2.2.2.2.2.2.2.2.2.2.2.2.2.2.2.2.2.1, u.2.2.2.2.2.2.2.2.2.2.2.2.2.2.2.2.2.2.2.2.2.2.2.2.2.1, u.2.2.2.2.2.2.2.2.2.2.2.2.2.2.2.2.2.2.2.2.2.2.2.2.2.2.1, u.2.2.2.2.2.2.2.2.2.2.2.2.2.2.2.2.2.2.2.2.2.2.2.2.2.2.2)) (by omega) hc (x := la_bl (d.getD i 0)) (by unfold la_bl; split <;> omega) hT' (fun N2 pt2 c2 nd2 c12 c13 c14 c15 q1 q2 q3 q4 q5 => nm_r (nI_1 i) ?_))
    exact hw (nI c2, nd2, c12, c13, c14, c15) ⟨N2, pt2, c2, rfl, q3, by omega, q4, by rw [q5, hpt, la_take_s hi]⟩
end
section
/-! numbers into bytes and out of them -/
theorem la_bring {post : Int32 → St1 → Prop} {u : St1} {p v x : Nat} (hv : v < 1000) (hx : x < 1000) (hp : p + 2 ≤ 960)
    (H : ∀ b6 q, la_en b6 p (la_cd v x) q → (∀ j, j < p → b6 j = u.2.2.2.2.2.2.2.2.2.2.2.2.2.1 j) → post (nI q) (u.1, u.2.1, u.2.2.1, u.2.2.2.1, u.2.2.2.2.1, u.2.2.2.2.2.1, u.2.2.2.2.2.2.1, u.2.2.2.2.2.2.2.1, u.2.2.2.2.2.2.2.2.1, u.2.2.2.2.2.2.2.2.2.1, u.2.2.2.2.2.2.2.2.2.2.1, u.2.2.2.2.2.2.2.2.2.2.2.1, u.2.2.2.2.2.2.2.2.2.2.2.2.1, b6, u.2.2.2.2.2.2.2.2.2.2.2.2.2.2.1, u.2.2.2.2.2.2.2.2.2.2.2.2.2.2.2.1, u.2.2.2.2.2.2.2.2.2.2.2.2.2.2.2.2.1, u.2.2.2.2.2.2.2.2.2.2.2.2.2.2.2.2.2.1, u.2.2.2.2.2.2.2.2.2.2.2.2.2.2.2.2.2.2.1, u.2.2.2.2.2.2.2.2.2.2.2.2.2.2.2.2.2.2.2.1, u.2.2.2.2.2.2.2.2.2.2.2.2.2.2.2.2.2.2.2.2.1, u.2.2.2.2.2.2.2.2.2.2.2.2.2.2.2.2.2.2.2.2.2.1, u.2.2.2.2.2.2.2.2.2.2.2.2.2.2.2.2.2.2.2.2.2.2.1, u.2.2.2.2.2.2.2.2.2.2.2.2.2.2.2.2.2.2.2.2.2.2.2.1, u.2.2.2.2.2.2.2.2.2.2.2.2.2.2.2.2.2.2.2.2.2.2.2.2.1, u.2.2.2.2.2.2.2.2.2.2.2.2.2.2.2.2.2.2.2.2.2.2.2.2.2.1, u.2.2.2.2.2.2.2.2.2.2.2.2.2.2.2.2.2.2.2.2.2.2.2.2.2.2.1, u.2.2.2.2.2.2.2.2.2.2.2.2.2.2.2.2.2.2.2.2.2.2.2.2.2.2.2)) : wpX_bringNumber post u (nI p) (nI x - nI v) := by
  have key : ∀ z : Int32, z = nI (la_cd v x) → wX_bringNumber_16 post (nI p) z u.1 u.2.1 u.2.2.1 u.2.2.2.1 u.2.2.2.2.1 u.2.2.2.2.2.1 u.2.2.2.2.2.2.1 u.2.2.2.2.2.2.2.1 u.2.2.2.2.2.2.2.2.1 u.2.2.2.2.2.2.2.2.2.1 u.2.2.2.2.2.2.2.2.2.2.1 u.2.2.2.2.2.2.2.2.2.2.2.1 u.2.2.2.2.2.2.2.2.2.2.2.2.1 u.2.2.2.2.2.2.2.2.2.2.2.2.2.1 u.2.2.2.2.2.2.2.2.2.2.2.2.2.2.1 u.2.2.2.2.2.2.2.2.2.2.2.2.2.2.2.1 u.2.2.2.2.2.2.2.2.2.2.2.2.2.2.2.2.1 u.2.2.2.2.2.2.2.2.2.2.2.2.2.2.2.2.2.1 u.2.2.2.2.2.2.2.2.2.2.2.2.2.2.2.2.2.2.1 u.2.2.2.2.2.2.2.2.2.2.2.2.2.2.2.2.2.2.2.1 u.2.2.2.2.2.2.2.2.2.2.2.2.2.2.2.2.2.2.2.2.1 u.2.2.2.2.2.2.2.2.2.2.2.2.2.2.2.2.2.2.2.2.2.1 u.2.2.2.2.2.2.2.2.2.2.2.2.2.2.2.2.2.2.2.2.2.2.1 u.2.2.2.2.2.2.2.2.2.2.2.2.2.2.2.2.2.2.2.2.2.2.2.1 u.2.2.2.2.2.2.2.2.2.2.2.2.2.2.2.2.2.2.2.2.2.2.2.2.1 u.2.2.2.2.2.2.2.2.2.2.2.2.2.2.2.2.2.2.2.2.2.2.2.2.2.1 u.2.2.2.2.2.2.2.2.2.2.2.2.2.2.2.2.2.2.2.2.2.2.2.2.2.2.1 u.2.2.2.2.2.2.2.2.2.2.2.2.2.2.2.2.2.2.2.2.2.2.2.2.2.2.2 := by
    intro z ez
    subst ez
    have hc := la_cd_lt hv hx
    generalize la_cd v x = c at H hc
    unfold wX_bringNumber_16
    refine pk_le 128 c (fun z => ⟨pk_in p 960 (by omega), nm_e ⟨pk_in (p + 1) 960 (by omega) (nI_1 p), nm_e ?_⟩⟩) (fun z => ⟨pk_in p 960 (by omega), nm_e ?_⟩)
    · rw [nI_clamp (show p < 2 ^ 31 by omega), pk_cl (p + 1) (nI_1 p), show nI p + 2 = nI (p + 2) from nI_add p 2]
      refine H _ (p + 2) (Or.inr ⟨z, rfl, ?_, ?_⟩) (fun j hj => ?_)
      · rw [pk_un (by omega), pk_us]
        exact la_k2 c hc
      · rw [pk_us]
        exact la_k3 c hc
      · rw [pk_un (by omega), pk_un (by omega)]
    · rw [nI_clamp (show p < 2 ^ 31 by omega), nI_1]
      refine H _ (p + 1) (Or.inl ⟨z, rfl, ?_⟩) (fun j hj => ?_)
      · rw [pk_us]
        exact la_k1 c z
      · rw [pk_un (by omega)]
  unfold wpX_bringNumber
  by_cases h : v ≤ x
  · rw [pk_sub h]
    refine br_t (nI_pos' (by omega)) (key _ ?_)
    unfold la_cd
    rw [if_pos h]
    exact pk_mul 2 _
  · have h1 : nI x - nI v < 0 := pk_sneg (by omega) (by omega)
    refine br_f (Int32.not_le.mpr h1) (key _ ?_)
    unfold la_cd
    rw [if_neg h]
    have e1 : nI v = nI x + nI (v - x) := by
      rw [nI_add]
      congr 1
      omega
    have e2 : nI (2 * (v - x) - 1) + 1 = nI (v - x) + nI (v - x) := by
      rw [nI_1, nI_add]
      congr 1
      omega
    rw [e1]
    generalize nI x = a at e2 ⊢
    generalize nI (v - x) = b at e2 ⊢
    generalize nI (2 * (v - x) - 1) = c at e2 ⊢
    grind
theorem la_take63 {post : Int32 → St1 → Prop} {u : St1} {c : Nat} (hc : c < 2048) (H : post (la_dc c) u) : wX_takeNumber_63 post (nI c) u.1 u.2.1 u.2.2.1 u.2.2.2.1 u.2.2.2.2.1 u.2.2.2.2.2.1 u.2.2.2.2.2.2.1 u.2.2.2.2.2.2.2.1 u.2.2.2.2.2.2.2.2.1 u.2.2.2.2.2.2.2.2.2.1 u.2.2.2.2.2.2.2.2.2.2.1 u.2.2.2.2.2.2.2.2.2.2.2.1 u.2.2.2.2.2.2.2.2.2.2.2.2.1 u.2.2.2.2.2.2.2.2.2.2.2.2.2.1 u.2.2.2.2.2.2.2.2.2.2.2.2.2.2.1 u.2.2.2.2.2.2.2.2.2.2.2.2.2.2.2.1 u.2.2.2.2.2.2.2.2.2.2.2.2.2.2.2.2.1 u.2.2.2.2.2.2.2.2.2.2.2.2.2.2.2.2.2.1 u.2.2.2.2.2.2.2.2.2.2.2.2.2.2.2.2.2.2.1 u.2.2.2.2.2.2.2.2.2.2.2.2.2.2.2.2.2.2.2.1 u.2.2.2.2.2.2.2.2.2.2.2.2.2.2.2.2.2.2.2.2.1 u.2.2.2.2.2.2.2.2.2.2.2.2.2.2.2.2.2.2.2.2.2.1 u.2.2.2.2.2.2.2.2.2.2.2.2.2.2.2.2.2.2.2.2.2.2.1 u.2.2.2.2.2.2.2.2.2.2.2.2.2.2.2.2.2.2.2.2.2.2.2.1 u.2.2.2.2.2.2.2.2.2.2.2.2.2.2.2.2.2.2.2.2.2.2.2.2.1 u.2.2.2.2.2.2.2.2.2.2.2.2.2.2.2.2.2.2.2.2.2.2.2.2.2.1 u.2.2.2.2.2.2.2.2.2.2.2.2.2.2.2.2.2.2.2.2.2.2.2.2.2.2.1 u.2.2.2.2.2.2.2.2.2.2.2.2.2.2.2.2.2.2.2.2.2.2.2.2.2.2.2 := by
  unfold wX_takeNumber_63
  unfold la_dc at H
  by_cases h : c % 2 = 0
  · rw [if_pos h] at H
    refine br_t ((la_k5 c hc).1 h) ?_
    rw [la_k6 c (by omega)]
    exact H
  · rw [if_neg h] at H
    refine br_f (by rw [(la_k5 c hc).2 (by omega)]; decide) ?_
    rw [nI_1, la_k6 (c + 1) (by omega)]
    exact H
theorem la_take {post : Int32 → St1 → Prop} {u : St1} {p q c : Nat} (hc : c < 2048) (hq : q ≤ 960) (h : la_en u.2.2.2.2.2.2.2.2.2.2.2.2.2.1 p c q) (hf : u.2.2.2.2.2.2.2.1 = nI p) (H : post (la_dc c) (u.1, u.2.1, u.2.2.1, u.2.2.2.1, u.2.2.2.2.1, u.2.2.2.2.2.1, u.2.2.2.2.2.2.1, nI q, u.2.2.2.2.2.2.2.2.1, u.2.2.2.2.2.2.2.2.2.1, u.2.2.2.2.2.2.2.2.2.2.1, u.2.2.2.2.2.2.2.2.2.2.2.1, u.2.2.2.2.2.2.2.2.2.2.2.2.1, u.2.2.2.2.2.2.2.2.2.2.2.2.2.1, u.2.2.2.2.2.2.2.2.2.2.2.2.2.2.1, u.2.2.2.2.2.2.2.2.2.2.2.2.2.2.2.1, u.2.2.2.2.2.2.2.2.2.2.2.2.2.2.2.2.1, u.2.2.2.2.2.2.2.2.2.2.2.2.2.2.2.2.2.1, u.2.2.2.2.2.2.2.2.2.2.2.2.2.2.2.2.2.2.1, u.2.2.2.2.2.2.2.2.2.2.2.2.2.2.2.2.2.2.2.1, u.2.2.2.2.2.2.2.2.2.2.2.2.2.2.2.2.2.2.2.2.1, u.2.2.2.2.2.2.2.2.2.2.2.2.2.2.2.2.2.2.2.2.2.1, u.2.2.2.2.2.2.2.2.2.2.2.2.2.2.2.2.2.2.2.2.2.2.1, u.2.2.2.2.2.2.2.2.2.2.2.2.2.2.2.2.2.2.2.2.2.2.2.1, u.2.2.2.2.2.2.2.2.2.2.2.2.2.2.2.2.2.2.2.2.2.2.2.2.1, u.2.2.2.2.2.2.2.2.2.2.2.2.2.2.2.2.2.2.2.2.2.2.2.2.2.1, u.2.2.2.2.2.2.2.2.2.2.2.2.2.2.2.2.2.2.2.2.2.2.2.2.2.2.1, u.2.2.2.2.2.2.2.2.2.2.2.2.2.2.2.2.2.2.2.2.2.2.2.2.2.2.2)) : wpX_takeNumber post u := by
  have hpq := la_en_q h
  unfold wpX_takeNumber
  refine ⟨pk_in p 960 (by omega) hf, ?_⟩
  rw [hf, nI_clamp (show p < 2 ^ 31 by omega)]
  rcases h with ⟨h1, h2, h3⟩ | ⟨h1, h2, h3, h4⟩
  · subst h2
    refine nm_r h3 (nm_r (nI_1 p) (pk_lt c 128 (fun _ => ?_) (fun z => absurd z (by omega))))
    exact la_take63 (u := (u.1, u.2.1, u.2.2.1, u.2.2.2.1, u.2.2.2.2.1, u.2.2.2.2.2.1, u.2.2.2.2.2.2.1, nI (p + 1), u.2.2.2.2.2.2.2.2.1, u.2.2.2.2.2.2.2.2.2.1, u.2.2.2.2.2.2.2.2.2.2.1, u.2.2.2.2.2.2.2.2.2.2.2.1, u.2.2.2.2.2.2.2.2.2.2.2.2.1, u.2.2.2.2.2.2.2.2.2.2.2.2.2.1, u.2.2.2.2.2.2.2.2.2.2.2.2.2.2.1, u.2.2.2.2.2.2.2.2.2.2.2.2.2.2.2.1, u.2.2.2.2.2.2.2.2.2.2.2.2.2.2.2.2.1, u.2.2.2.2.2.2.2.2.2.2.2.2.2.2.2.2.2.1, u.2.2.2.2.2.2.2.2.2.2.2.2.2.2.2.2.2.2.1, u.2.2.2.2.2.2.2.2.2.2.2.2.2.2.2.2.2.2.2.1, u.2.2.2.2.2.2.2.2.2.2.2.2.2.2.2.2.2.2.2.2.1, u.2.2.2.2.2.2.2.2.2.2.2.2.2.2.2.2.2.2.2.2.2.1, u.2.2.2.2.2.2.2.2.2.2.2.2.2.2.2.2.2.2.2.2.2.2.1, u.2.2.2.2.2.2.2.2.2.2.2.2.2.2.2.2.2.2.2.2.2.2.2.1, u.2.2.2.2.2.2.2.2.2.2.2.2.2.2.2.2.2.2.2.2.2.2.2.2.1, u.2.2.2.2.2.2.2.2.2.2.2.2.2.2.2.2.2.2.2.2.2.2.2.2.2.1, u.2.2.2.2.2.2.2.2.2.2.2.2.2.2.2.2.2.2.2.2.2.2.2.2.2.2.1, u.2.2.2.2.2.2.2.2.2.2.2.2.2.2.2.2.2.2.2.2.2.2.2.2.2.2.2)) hc H
  · subst h2
    refine nm_r h3 (nm_r (nI_1 p) (pk_lt (c % 128 + 128) 128 (fun z => absurd z (by omega)) (fun _ => ⟨pk_in (p + 1) 960 (by omega), nm_r ?_ (nm_r (nI_1 (p + 1)) (la_take63 (u := (u.1, u.2.1, u.2.2.1, u.2.2.2.1, u.2.2.2.2.1, u.2.2.2.2.2.1, u.2.2.2.2.2.2.1, nI (p + 2), u.2.2.2.2.2.2.2.2.1, u.2.2.2.2.2.2.2.2.2.1, u.2.2.2.2.2.2.2.2.2.2.1, u.2.2.2.2.2.2.2.2.2.2.2.1, u.2.2.2.2.2.2.2.2.2.2.2.2.1, u.2.2.2.2.2.2.2.2.2.2.2.2.2.1, u.2.2.2.2.2.2.2.2.2.2.2.2.2.2.1, u.2.2.2.2.2.2.2.2.2.2.2.2.2.2.2.1, u.2.2.2.2.2.2.2.2.2.2.2.2.2.2.2.2.1, u.2.2.2.2.2.2.2.2.2.2.2.2.2.2.2.2.2.1, u.2.2.2.2.2.2.2.2.2.2.2.2.2.2.2.2.2.2.1, u.2.2.2.2.2.2.2.2.2.2.2.2.2.2.2.2.2.2.2.1, u.2.2.2.2.2.2.2.2.2.2.2.2.2.2.2.2.2.2.2.2.1, u.2.2.2.2.2.2.2.2.2.2.2.2.2.2.2.2.2.2.2.2.2.1, u.2.2.2.2.2.2.2.2.2.2.2.2.2.2.2.2.2.2.2.2.2.2.1, u.2.2.2.2.2.2.2.2.2.2.2.2.2.2.2.2.2.2.2.2.2.2.2.1, u.2.2.2.2.2.2.2.2.2.2.2.2.2.2.2.2.2.2.2.2.2.2.2.2.1, u.2.2.2.2.2.2.2.2.2.2.2.2.2.2.2.2.2.2.2.2.2.2.2.2.2.1, u.2.2.2.2.2.2.2.2.2.2.2.2.2.2.2.2.2.2.2.2.2.2.2.2.2.2.1, u.2.2.2.2.2.2.2.2.2.2.2.2.2.2.2.2.2.2.2.2.2.2.2.2.2.2.2)) hc H))⟩)))
    rw [nI_clamp (show p + 1 < 2 ^ 31 by omega), h4]
    exact la_k4 c hc
theorem la_enc_0 {a : Nat → Int32} {x : List Nat} {v : Nat → Nat} {p : Nat} : la_enc a x v p 0 p :=
  ⟨fun _ => p, rfl, rfl, by omega, by omega, fun j h => absurd h (by omega)⟩
theorem la_enc_keep {a a' : Nat → Int32} {x : List Nat} {v : Nat → Nat} {p i q : Nat} (h : la_enc a x v p i q) (hk : ∀ j, j < q → a' j = a j) : la_enc a' x v p i q := by
  obtain ⟨P, h0, h1, h2, h3, h4⟩ := h
  refine ⟨P, h0, h1, h2, h3, fun j hj => ?_⟩
  obtain ⟨g1, g2, g3⟩ := h4 j hj
  exact ⟨g1, fun z => la_en_keep (g2 z) (fun m _ m2 => hk m (by omega)), g3⟩
theorem la_enc_v {a : Nat → Int32} {x : List Nat} {v v' : Nat → Nat} {p i q : Nat} (h : la_enc a x v p i q) (hv : ∀ j, j < i → v' j = v j) : la_enc a x v' p i q := by
  obtain ⟨P, h0, h1, h2, h3, h4⟩ := h
  refine ⟨P, h0, h1, h2, h3, fun j hj => ?_⟩
  rw [hv j hj]
  exact h4 j hj
theorem la_enc_w {a : Nat → Int32} {x : List Nat} {v : Nat → Nat} {p i q : Nat} (h : la_enc a x v p i q) (hw : x.getD i 0 < 1000) : la_enc a x v p (i + 1) q := by
  obtain ⟨P, h0, h1, h2, h3, h4⟩ := h
  refine ⟨la_p P (i + 1) q, by rw [la_p_n (by omega)]; exact h0, la_p_s, h2, by omega, fun j hj => ?_⟩
  by_cases e : j = i
  · subst e
    rw [la_p_s, la_p_n (by omega)]
    exact ⟨by omega, fun z => absurd z (by omega), fun _ => h1.symm⟩
  · rw [la_p_n (by omega), la_p_n (by omega)]
    exact h4 j (by omega)
theorem la_enc_n {a a' : Nat → Int32} {x : List Nat} {v : Nat → Nat} {p i q r : Nat} (h : la_enc a x v p i q) (hn : 1000 ≤ x.getD i 0) (he : la_en a' q (la_cd (v i) (x.getD i 0 - 1000)) r) (hk : ∀ j, j < q → a' j = a j) : la_enc a' x v p (i + 1) r := by
  have hq := la_en_q he
  obtain ⟨P, h0, h1, h2, h3, h4⟩ := la_enc_keep h hk
  refine ⟨la_p P (i + 1) r, by rw [la_p_n (by omega)]; exact h0, la_p_s, by omega, by omega, fun j hj => ?_⟩
  by_cases e : j = i
  · subst e
    rw [la_p_s, la_p_n (by omega), h1]
    exact ⟨by omega, fun _ => he, fun z => absurd z (by omega)⟩
  · rw [la_p_n (by omega), la_p_n (by omega)]
    obtain ⟨g1, g2, g3⟩ := h4 j (by omega)
    exact ⟨by omega, g2, g3⟩
/-! a line more: the picture -/
theorem la_A_add {n k s t : Nat} {T : Nat → Nat} {X : Nat → List Nat} {S : Nat → Nat} {SL : Nat → List Nat} {d : List Nat} (h : la_A n k T X S SL) (hn : n < 60) (hd : la_row d) (ht : t ≤ 1000) (hs : s < k) (hS : SL s = d.map la_bl) :
    la_A (n + 1) k (la_p T n t) (la_p X n d) (la_p S n s) SL := by
  obtain ⟨h1, h2, h3, h4, h5⟩ := h
  refine ⟨by omega, h2, fun l hl => ?_, h4, h5⟩
  by_cases e : l = n
  · subst e
    rw [la_p_s, la_p_s, la_p_s]
    exact ⟨hd, ht, hs, hS⟩
  · rw [la_p_n e, la_p_n e, la_p_n e]
    exact h3 l (by omega)
theorem la_B_add {n k s t : Nat} {T : Nat → Nat} {X : Nat → List Nat} {S : Nat → Nat} {SL : Nat → List Nat} {d : List Nat} {a3 a4 a7 a8 : Nat → Int32} {a9 a11 b11 : Nat → Int64} (h : la_B n k T X S SL a3 a4 a7 a8 a9 a11) (hn : n < 60)
    (hb : ∀ w, w < 24 → ∀ j, j < 64 → la_bt (b11 w) j = (la_bt (a11 w) j || decide (n = j ∧ w ∈ d))) :
    la_B (n + 1) k (la_p T n t) (la_p X n d) (la_p S n s) SL (upd a3 n (nI t)) (upd a4 n (nI s)) a7 a8 (vp_updL a9 s (a9 s ||| ((1 : Int64) <<< ((nI n).toInt64 &&& 63)))) b11 := by
  obtain ⟨h1, h2, h3⟩ := h
  refine ⟨fun l hl => ?_, fun r hr => ⟨(h2 r hr).1, (h2 r hr).2.1, fun j hj => ?_⟩, fun w hw j hj => ?_⟩
  · by_cases e : l = n
    · subst e
      rw [la_p_s, la_p_s, pk_us, pk_us]
      exact ⟨rfl, rfl⟩
    · rw [la_p_n e, la_p_n e, pk_un e, pk_un e]
      exact h1 l (by omega)
  · have g := (h2 r hr).2.2 j hj
    by_cases e : r = s
    · subst e
      rw [pk_uLs, la_bt_or, g, la_bt_one (by omega), ← Bool.decide_or]
      refine decide_eq_decide.mpr ?_
      by_cases ej : j = n
      · subst ej
        rw [la_p_s]
        simp
      · rw [la_p_n ej]
        constructor
        · rintro (z | z)
          · exact ⟨by omega, z.2⟩
          · exact absurd z.symm ej
        · intro z
          exact Or.inl ⟨by omega, z.2⟩
    · rw [pk_uLn e, g]
      refine decide_eq_decide.mpr ?_
      by_cases ej : j = n
      · subst ej
        rw [la_p_s]
        constructor
        · intro z
          omega
        · intro z
          exact absurd z.2.symm e
      · rw [la_p_n ej]
        constructor
        · intro z
          exact ⟨by omega, z.2⟩
        · intro z
          exact ⟨by omega, z.2⟩
  · rw [hb w hw j hj, h3 w hw j hj, ← Bool.decide_or]
    refine decide_eq_decide.mpr ?_
    by_cases ej : j = n
    · subst ej
      rw [la_p_s]
      constructor
      · rintro (z | z)
        · omega
        · exact ⟨by omega, z.2⟩
      · intro z
        exact Or.inr ⟨rfl, z.2⟩
    · rw [la_p_n ej]
      constructor
      · rintro (z | z)
        · exact ⟨by omega, z.2⟩
        · exact absurd z.1.symm ej
      · intro z
        exact Or.inl ⟨by omega, z.2⟩
theorem la_C_add {n k s : Nat} {X : Nat → List Nat} {S : Nat → Nat} {SL : Nat → List Nat} {d : List Nat} {a5 a6 a10 b6 b10 : Nat → Int32} {B : Nat → Nat} {q : Nat} (hl8 : d.length ≤ 8) (hsk : s < k) (h8 : ∀ r, r < k → (SL r).length ≤ 8)
    (hS : SL s = d.map la_bl)
    (hB0 : B 0 = 0) (hB : ∀ l, l ≤ n → a5 l = nI (B l) ∧ B l ≤ 16 * l ∧ B l ≤ B n) (hE : ∀ l, l < n → la_enc a6 (X l) (fun i => la_V S X (S l) i l) (B l) (X l).length (B (l + 1)))
    (hL : ∀ r, r < k → ∀ i, i < (SL r).length → (SL r).getD i 0 = 1000 → a10 (8 * r + i) = nI (la_V S X r i n))
    (he : la_enc b6 d (fun i => la_V S X s i n) (B n) d.length q) (hb6 : ∀ j, j < B n → b6 j = a6 j)
    (hb10 : ∀ j, j < d.length → 1000 ≤ d.getD j 0 → b10 (8 * s + j) = nI (d.getD j 0 - 1000)) (hb10' : ∀ j, (j < 8 * s ∨ 8 * s + d.length ≤ j) → b10 j = a10 j) :
    la_C (n + 1) k (la_p X n d) (la_p S n s) SL (upd a5 (n + 1) (nI q)) b6 b10 := by
  have hq : B n ≤ q ∧ q ≤ B n + 2 * d.length := by
    obtain ⟨P, _, _, g1, g2, _⟩ := he
    exact ⟨g1, g2⟩
  have hV : ∀ r i l, l ≤ n → la_V (la_p S n s) (la_p X n d) r i l = la_V S X r i l := fun r i l hl => la_V_congr (fun j hj => la_p_n (by omega)) (fun j hj => la_p_n (by omega))
  refine ⟨⟨la_p B (n + 1) q, by rw [la_p_n (by omega)]; exact hB0, fun l hl => ?_, fun l hl => ?_⟩, fun r hr i hi hbl => ?_⟩
  · rw [la_p_s]
    by_cases e : l = n + 1
    · subst e
      rw [la_p_s, pk_us]
      have := (hB n (by omega)).2.1
      exact ⟨rfl, by omega, by omega⟩
    · rw [la_p_n e, pk_un e]
      have := hB l (by omega)
      exact ⟨this.1, this.2.1, by omega⟩
  · by_cases e : l = n
    · subst e
      rw [la_p_s, la_p_s, la_p_s, la_p_n (by omega)]
      exact la_enc_v he (fun j _ => hV _ _ _ (by omega))
    · rw [la_p_n e, la_p_n e, la_p_n (by omega), la_p_n (by omega)]
      have hl' : l + 1 ≤ n := by omega
      have := (hB (l + 1) hl').2.2
      exact la_enc_v (la_enc_keep (hE l (by omega)) (fun j hj => hb6 j (by omega))) (fun j _ => hV _ _ _ (by omega))
  · by_cases e : r = s
    · subst e
      rw [la_V_y la_p_s, la_p_s]
      rw [hS, List.length_map] at hi
      refine hb10 i hi ?_
      rw [hS, la_getD_map hi] at hbl
      unfold la_bl at hbl
      split at hbl <;> omega
    · rw [la_V_n (by rw [la_p_s]; exact fun z => e z.symm), hV _ _ _ (by omega)]
      rw [hb10' (8 * r + i) ?_]
      · exact hL r hr i hi hbl
      · have := h8 r hr
        omega
end
section
/-! writeDraft -/
/-- what writing a line leaves as it is -/
def la_sd (u : St1) := ((u.1, u.2.1, u.2.2.2.2.2.2.2.2.1, u.2.2.2.2.2.2.2.2.2.1), u.2.2.2.2.2.2.2.2.2.2.2.2.2.2.2.2.2.2.2.2.2.2.2.1, u.2.2.2.2.2.2.2.2.2.2.2.2.2.2.2.2.2.2.2.2.2.2.2.2.1, u.2.2.2.2.2.2.2.2.2.2.2.2.2.2.2.2.2.2.2.2.2.2.2.2.2.1, u.2.2.2.2.2.2.2.2.2.2.2.2.2.2.2.2.2.2.2.2.2.2.2.2.2.2.1, u.2.2.2.2.2.2.2.2.2.2.2.2.2.2.2.2.2.2.2.2.2.2.2.2.2.2.2)
theorem la_mem_take {d : List Nat} {i w : Nat} (hi : i < d.length) : w ∈ d.take (i + 1) ↔ (w ∈ d.take i ∨ w = d.getD i 0) := by
  rw [la_getD hi, List.take_succ_eq_append_getElem hi, List.mem_append, List.mem_singleton]
theorem la_wd21 {post : Int32 → St1 → Prop} {u : St1} {M n k s t : Nat} {T : Nat → Nat} {X : Nat → List Nat} {S : Nat → Nat} {SL : Nat → List Nat} {d : List Nat} {x4 : Int32} (hI : la_I1 M n k T X S SL u) (hd : la_row d) (hr : la_dr d u.1 u.2.2.2.2.2.2.2.2.1) (hn : n < 60) (ht : t ≤ 1000) (hs : s < k) (hS : SL s = d.map la_bl)
    (hx4 : x4 = u.2.2.2.2.2.2.2.2.2.2.2.2.1 n)
    (H : ∀ u', la_I1 M (n + 1) k (la_p T n t) (la_p X n d) (la_p S n s) SL u' → la_sd u' = la_sd u → post (nI n) u') :
    ∃ f, wX_writeDraft_21 post (nI t) (nI n) (nI s) f x4 0 u.1 u.2.1 u.2.2.1 u.2.2.2.1 u.2.2.2.2.1 u.2.2.2.2.2.1 u.2.2.2.2.2.2.1 u.2.2.2.2.2.2.2.1 u.2.2.2.2.2.2.2.2.1 u.2.2.2.2.2.2.2.2.2.1 u.2.2.2.2.2.2.2.2.2.2.1 u.2.2.2.2.2.2.2.2.2.2.2.1 u.2.2.2.2.2.2.2.2.2.2.2.2.1 u.2.2.2.2.2.2.2.2.2.2.2.2.2.1 u.2.2.2.2.2.2.2.2.2.2.2.2.2.2.1 u.2.2.2.2.2.2.2.2.2.2.2.2.2.2.2.1 u.2.2.2.2.2.2.2.2.2.2.2.2.2.2.2.2.1 u.2.2.2.2.2.2.2.2.2.2.2.2.2.2.2.2.2.1 u.2.2.2.2.2.2.2.2.2.2.2.2.2.2.2.2.2.2.1 u.2.2.2.2.2.2.2.2.2.2.2.2.2.2.2.2.2.2.2.1 u.2.2.2.2.2.2.2.2.2.2.2.2.2.2.2.2.2.2.2.2.1 u.2.2.2.2.2.2.2.2.2.2.2.2.2.2.2.2.2.2.2.2.2.1 u.2.2.2.2.2.2.2.2.2.2.2.2.2.2.2.2.2.2.2.2.2.2.1 u.2.2.2.2.2.2.2.2.2.2.2.2.2.2.2.2.2.2.2.2.2.2.2.1 u.2.2.2.2.2.2.2.2.2.2.2.2.2.2.2.2.2.2.2.2.2.2.2.2.1 u.2.2.2.2.2.2.2.2.2.2.2.2.2.2.2.2.2.2.2.2.2.2.2.2.2.1 u.2.2.2.2.2.2.2.2.2.2.2.2.2.2.2.2.2.2.2.2.2.2.2.2.2.2.1 u.2.2.2.2.2.2.2.2.2.2.2.2.2.2.2.2.2.2.2.2.2.2.2.2.2.2.2 := by
  have hI' := hI
  obtain ⟨hA, hln, hsh, hB, ⟨⟨B, hB0, hB1, hE⟩, hL⟩, hD⟩ := hI'
  have hA' := hA
  obtain ⟨hA1, hA2, hA3, hA4, hA5⟩ := hA'
  have hd' := hd
  obtain ⟨hl1, hl8, hok⟩ := hd'
  have hr' := hr
  obtain ⟨hdc, ha1⟩ := hr'
  have hBn := (hB1 n (by omega)).2.1
  have hVlt : ∀ i, la_V S X s i n < 1000 := fun i => la_V_lt (fun j hj => (hA3 j hj).1)
  rw [hx4, (hB1 n (by omega)).1]
  refine pk_loop (σ := Int32 × (Nat → Int32) × (Nat → Int32) × (Nat → Int64)) (fun f i st => wX_writeDraft_21 post (nI t) (nI n) (nI s) f st.1 (nI i) u.1 u.2.1 u.2.2.1 u.2.2.2.1 u.2.2.2.2.1 u.2.2.2.2.2.1 u.2.2.2.2.2.2.1 u.2.2.2.2.2.2.2.1 u.2.2.2.2.2.2.2.2.1 u.2.2.2.2.2.2.2.2.2.1 u.2.2.2.2.2.2.2.2.2.2.1 u.2.2.2.2.2.2.2.2.2.2.2.1 u.2.2.2.2.2.2.2.2.2.2.2.2.1 (st.2.1) u.2.2.2.2.2.2.2.2.2.2.2.2.2.2.1 u.2.2.2.2.2.2.2.2.2.2.2.2.2.2.2.1 u.2.2.2.2.2.2.2.2.2.2.2.2.2.2.2.2.1 (st.2.2.1) (st.2.2.2) u.2.2.2.2.2.2.2.2.2.2.2.2.2.2.2.2.2.2.2.1 u.2.2.2.2.2.2.2.2.2.2.2.2.2.2.2.2.2.2.2.2.1 u.2.2.2.2.2.2.2.2.2.2.2.2.2.2.2.2.2.2.2.2.2.1 u.2.2.2.2.2.2.2.2.2.2.2.2.2.2.2.2.2.2.2.2.2.2.1 u.2.2.2.2.2.2.2.2.2.2.2.2.2.2.2.2.2.2.2.2.2.2.2.1 u.2.2.2.2.2.2.2.2.2.2.2.2.2.2.2.2.2.2.2.2.2.2.2.2.1 u.2.2.2.2.2.2.2.2.2.2.2.2.2.2.2.2.2.2.2.2.2.2.2.2.2.1 u.2.2.2.2.2.2.2.2.2.2.2.2.2.2.2.2.2.2.2.2.2.2.2.2.2.2.1 u.2.2.2.2.2.2.2.2.2.2.2.2.2.2.2.2.2.2.2.2.2.2.2.2.2.2.2)
    (fun i st => ∃ q, st.1 = nI q ∧ la_enc st.2.1 d (fun j => la_V S X s j n) (B n) i q ∧ (∀ j, j < B n → st.2.1 j = u.2.2.2.2.2.2.2.2.2.2.2.2.2.1 j) ∧ (∀ j, j < i → 1000 ≤ d.getD j 0 → st.2.2.1 (8 * s + j) = nI (d.getD j 0 - 1000)) ∧ (∀ j, (j < 8 * s ∨ 8 * s + i ≤ j) → st.2.2.1 j = u.2.2.2.2.2.2.2.2.2.2.2.2.2.2.2.2.2.1 j) ∧ (∀ w, w < 24 → ∀ j, j < 64 → la_bt (st.2.2.2 w) j = (la_bt (u.2.2.2.2.2.2.2.2.2.2.2.2.2.2.2.2.2.2.1 w) j || decide (n = j ∧ w ∈ d.take i))))
    d.length 0 (nI (B n), u.2.2.2.2.2.2.2.2.2.2.2.2.2.1, u.2.2.2.2.2.2.2.2.2.2.2.2.2.2.2.2.2.1, u.2.2.2.2.2.2.2.2.2.2.2.2.2.2.2.2.2.2.1) (by omega) ⟨B n, rfl, la_enc_0, fun _ _ => rfl, fun j h => absurd h (by omega), fun _ _ => rfl, fun w _ j _ => by simp⟩
    (fun f st h => ?_) (fun f i st hi h hw => ?_)
  · obtain ⟨x4, b6, b10, b11⟩ := st
    obtain ⟨q, e1, g1, g2, g3, g4, g5⟩ := h
    dsimp only at e1 g1 g2 g3 g4 g5 ⊢
    subst e1
    rw [List.take_length] at g5
    refine pk_le d.length d.length (fun _ => ⟨pk_in (n + 1) 61 (by omega) (nI_1 n), nm_e ⟨pk_in n 60 hn, nm_e ⟨pk_in n 60 hn, nm_e ⟨pk_in s 60 (by omega), pk_in s 60 (by omega), nm_e (nm_e ?_)⟩⟩⟩⟩) (fun z => absurd z (by omega)) hdc
    rw [pk_cl (n + 1) (nI_1 n), nI_clamp (show n < 2 ^ 31 by omega), nI_clamp (show s < 2 ^ 31 by omega), hln, nI_1]
    refine H _ ⟨la_A_add hA hn hd ht hs hS, rfl, hsh, la_B_add hB hn g5, la_C_add hl8 hs hA5 hS hB0 hB1 hE hL g1 g2 g3 g4, hD⟩ rfl
  · obtain ⟨x4, b6, b10, b11⟩ := st
    obtain ⟨q, e1, g1, g2, g3, g4, g5⟩ := h
    dsimp only at e1 g1 g2 g3 g4 g5 ⊢
    subst e1
    have hgo := la_get_ok hd hi
    have hq : B n ≤ q ∧ q ≤ B n + 2 * i := by
      obtain ⟨P, _, _, z1, z2, _⟩ := g1
      exact ⟨z1, z2⟩
    refine pk_le d.length i (fun z => absurd z (by omega)) (fun _ => ⟨pk_in i 8 (by omega), ?_⟩) hdc
    rw [nI_clamp (show i < 2 ^ 31 by omega), ha1 i hi]
    refine la_isNumber hgo (fun z => br_t rfl ⟨pk_in i 8 (by omega), pk_in (d.getD i 0) 24 z, pk_in (d.getD i 0) 24 z, nm_e (nm_r (nI_1 i) ?_)⟩) (fun z z2 => br_f (by decide) (nm_r (la_ix s i) ⟨pk_in i 8 (by omega), pk_in (8 * s + i) 480 (by omega), ?_⟩))
    · rw [nI_clamp (show d.getD i 0 < 2 ^ 31 by omega)]
      refine hw (nI q, b6, b10, vp_updL b11 (d.getD i 0) _) ⟨q, rfl, la_enc_w g1 (by omega), g2, fun j hj hb => ?_, fun j hj => g4 j (by omega), fun w hw j hj => ?_⟩
      · by_cases e : j = i
        · subst e
          omega
        · exact g3 j (by omega) hb
      · dsimp only
        have hm : ∀ w, decide (n = j ∧ w ∈ d.take (i + 1)) = (decide (n = j ∧ w ∈ d.take i) || decide (n = j ∧ w = d.getD i 0)) := by
          intro w
          rw [← Bool.decide_or]
          refine decide_eq_decide.mpr ?_
          rw [la_mem_take hi]
          exact and_or_left
        rw [hm]
        by_cases e : w = d.getD i 0
        · rw [e, pk_uLs, la_bt_or, la_bt_one (by omega), g5 _ z j hj, Bool.or_assoc]
          congr 2
          exact decide_eq_decide.mpr ⟨fun y => ⟨y, rfl⟩, fun y => y.1⟩
        · rw [pk_uLn e, g5 w hw j hj]
          have : decide (n = j ∧ w = d.getD i 0) = false := decide_eq_false (fun y => e y.2)
          rw [this, Bool.or_false]
    · rw [nI_clamp (show 8 * s + i < 2 ^ 31 by omega), g4 (8 * s + i) (by omega)]
      have hbl : (SL s).getD i 0 = 1000 := by
        rw [hS, la_getD_map hi, la_bl_n z]
      have hl : i < (SL s).length := by
        rw [hS, List.length_map]
        exact hi
      rw [hL s hs i hl hbl, show nI (d.getD i 0) - 1000 = nI (d.getD i 0 - 1000) from pk_sub z]
      refine la_bring (hVlt i) (by omega) (by omega) (fun c6 r y1 y2 => ⟨pk_in i 8 (by omega), pk_in (8 * s + i) 480 (by omega), nm_e (nm_r (nI_1 i) ?_)⟩)
      dsimp only at y2 ⊢
      rw [ha1 i hi, show nI (d.getD i 0) - 1000 = nI (d.getD i 0 - 1000) from pk_sub z]
      refine hw (nI r, c6, upd b10 (8 * s + i) _, b11) ⟨r, rfl, la_enc_n g1 z y1 y2, fun j hj => ?_, fun j hj hb => ?_, fun j hj => ?_, fun w hw j hj => ?_⟩
      · exact (y2 j (by omega)).trans (g2 j hj)
      · dsimp only
        by_cases e : j = i
        · rw [e, pk_us]
        · rw [pk_un (by omega)]
          exact g3 j (by omega) hb
      · dsimp only
        rw [pk_un (by omega)]
        exact g4 j (by omega)
      · refine (g5 w hw j hj).trans ?_
        congr 1
        refine decide_eq_decide.mpr ?_
        rw [la_mem_take hi]
        constructor
        · exact fun y => ⟨y.1, Or.inl y.2⟩
        · rintro ⟨y1, y2 | y2⟩
          · exact ⟨y1, y2⟩
          · omega
theorem la_O_add {n k k' s : Nat} {S : Nat → Nat} (h : la_O n k S) (hk : (k' = k ∧ s < k) ∨ (k' = k + 1 ∧ s = k)) : la_O (n + 1) k' (la_p S n s) := by
  obtain ⟨h0, h1, h2⟩ := h
  refine ⟨by omega, fun r hr => ?_, fun l hl r hr => ?_⟩
  · by_cases e : r < k
    · obtain ⟨l, g1, g2⟩ := h1 r e
      exact ⟨l, by omega, by rw [la_p_n (by omega)]; exact g2⟩
    · exact ⟨n, by omega, by rw [la_p_s]; omega⟩
  · by_cases e : l = n
    · rw [e, la_p_s] at hr
      obtain ⟨m, g1, g2⟩ := h1 r (by omega)
      exact ⟨m, by omega, by rw [la_p_n (by omega)]; exact g2⟩
    · rw [la_p_n e] at hr
      obtain ⟨m, g1, g2⟩ := h2 l (by omega) r hr
      exact ⟨m, g1, by rw [la_p_n (by omega)]; exact g2⟩
theorem la_writeDraft {post : Int32 → St1 → Prop} {u : St1} {n k t : Nat} {T : Nat → Nat} {X : Nat → List Nat} {S : Nat → Nat} {SL : Nat → List Nat} {d : List Nat} (hI : la_I n k T X S SL u) (hd : la_row d) (hr : la_dr d u.1 u.2.2.2.2.2.2.2.2.1) (hn : n < 60) (ht : t ≤ 1000)
    (H : ∀ k' SL' s u', la_I (n + 1) k' (la_p T n t) (la_p X n d) (la_p S n s) SL' u' → ((k' = k ∧ s < k) ∨ (k' = k + 1 ∧ s = k)) → la_sd u' = la_sd u → post (nI n) u') :
    wpX_writeDraft post u (nI t) := by
  obtain ⟨⟨hA, hln, hsh, hB, ⟨⟨B, hB0, hB1, hE⟩, hL⟩, ⟨N, pt, hN, hT⟩⟩, hO⟩ := hI
  have hA' := hA
  obtain ⟨hA1, hA2, hA3, hA4, hA5⟩ := hA'
  have hkn := hO.1
  have hl8 := hd.2.1
  unfold wpX_writeDraft
  refine la_sod hd hr (k := k) (by omega) hsh (N := N) (by omega) hT (fun s N' pt' nd b12 b13 b14 b15 q1 q2 q3 q4 => ?_) (fun N' pt' nd b8 b10 b12 b13 b14 b15 q1 q2 q3 q4 q5 => ?_)
  · refine ⟨pk_in n 61 (by omega) hln, nm_e ?_⟩
    rw [hln, nI_clamp (show n < 2 ^ 31 by omega)]
    refine la_wd21 (M := 1 + 8 * (n + 1)) (u := (u.1, u.2.1, nI n, u.2.2.2.1, nd, u.2.2.2.2.2.1, u.2.2.2.2.2.2.1, u.2.2.2.2.2.2.2.1, u.2.2.2.2.2.2.2.2.1, u.2.2.2.2.2.2.2.2.2.1, u.2.2.2.2.2.2.2.2.2.2.1, u.2.2.2.2.2.2.2.2.2.2.2.1, u.2.2.2.2.2.2.2.2.2.2.2.2.1, u.2.2.2.2.2.2.2.2.2.2.2.2.2.1, u.2.2.2.2.2.2.2.2.2.2.2.2.2.2.1, u.2.2.2.2.2.2.2.2.2.2.2.2.2.2.2.1, u.2.2.2.2.2.2.2.2.2.2.2.2.2.2.2.2.1, u.2.2.2.2.2.2.2.2.2.2.2.2.2.2.2.2.2.1, u.2.2.2.2.2.2.2.2.2.2.2.2.2.2.2.2.2.2.1, b12, b13, b14, b15, u.2.2.2.2.2.2.2.2.2.2.2.2.2.2.2.2.2.2.2.2.2.2.2.1, u.2.2.2.2.2.2.2.2.2.2.2.2.2.2.2.2.2.2.2.2.2.2.2.2.1, u.2.2.2.2.2.2.2.2.2.2.2.2.2.2.2.2.2.2.2.2.2.2.2.2.2.1, u.2.2.2.2.2.2.2.2.2.2.2.2.2.2.2.2.2.2.2.2.2.2.2.2.2.2.1, u.2.2.2.2.2.2.2.2.2.2.2.2.2.2.2.2.2.2.2.2.2.2.2.2.2.2.2)) (T := T) (X := X) (S := S) (SL := SL) (k := k) ⟨hA, rfl, hsh, hB, ⟨⟨B, hB0, hB1, hE⟩, hL⟩, ⟨N', pt', by omega, q4⟩⟩ hd hr hn ht q1 q2 rfl (fun u' y1 y2 => ?_)
    exact H k SL s u' ⟨y1, la_O_add hO (Or.inl ⟨rfl, q1⟩)⟩ (Or.inl ⟨rfl, q1⟩) y2
  · refine ⟨pk_in n 61 (by omega) hln, nm_e ?_⟩
    rw [hln, nI_clamp (show n < 2 ^ 31 by omega)]
    have hlen : (d.map la_bl).length = d.length := List.length_map _
    have hSk : ∀ j, j < n → S j ≠ k := fun j hj => by
      have := (hA3 j hj).2.2.1
      omega
    refine la_wd21 (M := 1 + 8 * (n + 1)) (u := (u.1, u.2.1, nI n, nI (k + 1), nd, u.2.2.2.2.2.1, u.2.2.2.2.2.2.1, u.2.2.2.2.2.2.2.1, u.2.2.2.2.2.2.2.2.1, u.2.2.2.2.2.2.2.2.2.1, u.2.2.2.2.2.2.2.2.2.2.1, u.2.2.2.2.2.2.2.2.2.2.2.1, u.2.2.2.2.2.2.2.2.2.2.2.2.1, u.2.2.2.2.2.2.2.2.2.2.2.2.2.1, upd u.2.2.2.2.2.2.2.2.2.2.2.2.2.2.1 k (nI d.length), b8, vp_updL u.2.2.2.2.2.2.2.2.2.2.2.2.2.2.2.2.1 k 0, b10, u.2.2.2.2.2.2.2.2.2.2.2.2.2.2.2.2.2.2.1, b12, b13, b14, b15, u.2.2.2.2.2.2.2.2.2.2.2.2.2.2.2.2.2.2.2.2.2.2.2.1, u.2.2.2.2.2.2.2.2.2.2.2.2.2.2.2.2.2.2.2.2.2.2.2.2.1, u.2.2.2.2.2.2.2.2.2.2.2.2.2.2.2.2.2.2.2.2.2.2.2.2.2.1, u.2.2.2.2.2.2.2.2.2.2.2.2.2.2.2.2.2.2.2.2.2.2.2.2.2.2.1, u.2.2.2.2.2.2.2.2.2.2.2.2.2.2.2.2.2.2.2.2.2.2.2.2.2.2.2)) (T := T) (X := X) (S := S) (SL := la_p SL k (d.map la_bl)) (k := k + 1) (s := k)
      ⟨⟨hA1, by omega, fun l hl => ?_, fun r v hr hv e => ?_, fun r hr => ?_⟩, rfl, rfl, ⟨hB.1, fun r hr => ?_, hB.2.2⟩, ⟨⟨B, hB0, hB1, hE⟩, fun r hr i hi hbl => ?_⟩, ⟨N', pt', by omega, q3⟩⟩ hd hr hn ht (by omega) la_p_s rfl (fun u' y1 y2 => ?_)
    · obtain ⟨z1, z2, z3, z4⟩ := hA3 l hl
      exact ⟨z1, z2, by omega, by rw [la_p_n (by omega)]; exact z4⟩
    · by_cases er : r = k
      · by_cases ev : v = k
        · omega
        · rw [er, la_p_s, la_p_n ev] at e
          exact absurd e.symm (q1 v (by omega))
      · by_cases ev : v = k
        · rw [ev, la_p_s, la_p_n er] at e
          exact absurd e (q1 r (by omega))
        · rw [la_p_n er, la_p_n ev] at e
          exact hA4 r v (by omega) (by omega) e
    · by_cases er : r = k
      · rw [er, la_p_s, hlen]
        exact hl8
      · rw [la_p_n er]
        exact hA5 r (by omega)
    · dsimp only
      by_cases er : r = k
      · rw [er, la_p_s, pk_us, pk_uLs, hlen]
        refine ⟨rfl, fun i hi => ?_, fun j hj => ?_⟩
        · rw [(q4 i hi).1, la_getD_map hi]
        · rw [la_bt_0]
          exact (decide_eq_false (fun z => hSk j z.1 z.2)).symm
      · rw [la_p_n er, pk_un er, pk_uLn er]
        obtain ⟨z1, z2, z3⟩ := hB.2.1 r (by omega)
        refine ⟨z1, fun i hi => ?_, z3⟩
        have := hA5 r (by omega)
        rw [(q5 (8 * r + i) (by omega)).1]
        exact z2 i hi
    · dsimp only
      by_cases er : r = k
      · rw [er, la_p_s, hlen] at hi
        rw [er, (q4 i hi).2, la_V_new hSk]
        rfl
      · rw [la_p_n er] at hi hbl
        have := hA5 r (by omega)
        rw [(q5 (8 * r + i) (by omega)).2]
        exact hL r (by omega) i hi hbl
    · exact H (k + 1) (la_p SL k (d.map la_bl)) k u' ⟨y1, la_O_add hO (Or.inr ⟨rfl, rfl⟩)⟩ (Or.inr ⟨rfl, rfl⟩) y2
end
section
/-! reading lines -/
/-- the numbers that stood in the shape's last line ahead of l -/
def la_N (S : Nat → Nat) (X : Nat → List Nat) (SL : Nat → List Nat) (s l : Nat) (a : Nat → Int32) : Prop := ∀ i, i < (SL s).length → (SL s).getD i 0 = 1000 → a i = nI (la_V S X s i l)
theorem la_N_skip {S : Nat → Nat} {X : Nat → List Nat} {SL : Nat → List Nat} {s l : Nat} {a : Nat → Int32} (h : la_N S X SL s l a) (e : S l ≠ s) : la_N S X SL s (l + 1) a := fun i hi hb => by
  rw [la_V_n e]
  exact h i hi hb
theorem la_addLine {post : St1 → Prop} {u : St1} {M n k l s : Nat} {T : Nat → Nat} {X : Nat → List Nat} {S : Nat → Nat} {SL : Nat → List Nat} (hI : la_I1 M n k T X S SL u) (hl : l < n) (hs : S l = s) (hN : la_N S X SL s l u.2.2.2.2.2.2.2.2.2.2.2.2.2.2.2.2.2.2.2.2.2.2.2.2.1)
    (H : ∀ fr b17, la_N S X SL s (l + 1) b17 → post (u.1, u.2.1, u.2.2.1, u.2.2.2.1, u.2.2.2.2.1, u.2.2.2.2.2.1, u.2.2.2.2.2.2.1, fr, u.2.2.2.2.2.2.2.2.1, u.2.2.2.2.2.2.2.2.2.1, u.2.2.2.2.2.2.2.2.2.2.1, u.2.2.2.2.2.2.2.2.2.2.2.1, u.2.2.2.2.2.2.2.2.2.2.2.2.1, u.2.2.2.2.2.2.2.2.2.2.2.2.2.1, u.2.2.2.2.2.2.2.2.2.2.2.2.2.2.1, u.2.2.2.2.2.2.2.2.2.2.2.2.2.2.2.1, u.2.2.2.2.2.2.2.2.2.2.2.2.2.2.2.2.1, u.2.2.2.2.2.2.2.2.2.2.2.2.2.2.2.2.2.1, u.2.2.2.2.2.2.2.2.2.2.2.2.2.2.2.2.2.2.1, u.2.2.2.2.2.2.2.2.2.2.2.2.2.2.2.2.2.2.2.1, u.2.2.2.2.2.2.2.2.2.2.2.2.2.2.2.2.2.2.2.2.1, u.2.2.2.2.2.2.2.2.2.2.2.2.2.2.2.2.2.2.2.2.2.1, u.2.2.2.2.2.2.2.2.2.2.2.2.2.2.2.2.2.2.2.2.2.2.1, u.2.2.2.2.2.2.2.2.2.2.2.2.2.2.2.2.2.2.2.2.2.2.2.1, b17, u.2.2.2.2.2.2.2.2.2.2.2.2.2.2.2.2.2.2.2.2.2.2.2.2.2.1, u.2.2.2.2.2.2.2.2.2.2.2.2.2.2.2.2.2.2.2.2.2.2.2.2.2.2.1, u.2.2.2.2.2.2.2.2.2.2.2.2.2.2.2.2.2.2.2.2.2.2.2.2.2.2.2)) : wpX_addLine post u (nI l) (nI s) := by
  obtain ⟨hA, hln, hsh, hB, ⟨⟨B, hB0, hB1, hE⟩, hL⟩, hD⟩ := hI
  obtain ⟨hA1, hA2, hA3, hA4, hA5⟩ := hA
  obtain ⟨hr, hT, hsk, hSL⟩ := hA3 l hl
  rw [hs] at hsk hSL
  have hlen : (SL s).length = (X l).length := by
    rw [hSL, List.length_map]
  have hlen8 := hr.2.1
  have hb1 := (hB1 l (by omega)).1
  have hbn := (hB1 (l + 1) (by omega)).2.1
  obtain ⟨ha7, ha8, _⟩ := hB.2.1 s hsk
  obtain ⟨P, hP0, hPl, _, _, hPs⟩ := hE l hl
  rw [hs] at hPs
  unfold wpX_addLine
  refine ⟨pk_in l 61 (by omega), nm_r (e' := nI (B l)) (by rw [nI_clamp (show l < 2 ^ 31 by omega)]; exact hb1) ?_⟩
  refine pk_loop (σ := Int32 × (Nat → Int32)) (fun f i st => wX_addLine_12 post (nI s) f (nI i) u.1 u.2.1 u.2.2.1 u.2.2.2.1 u.2.2.2.2.1 u.2.2.2.2.2.1 u.2.2.2.2.2.2.1 (st.1) u.2.2.2.2.2.2.2.2.1 u.2.2.2.2.2.2.2.2.2.1 u.2.2.2.2.2.2.2.2.2.2.1 u.2.2.2.2.2.2.2.2.2.2.2.1 u.2.2.2.2.2.2.2.2.2.2.2.2.1 u.2.2.2.2.2.2.2.2.2.2.2.2.2.1 u.2.2.2.2.2.2.2.2.2.2.2.2.2.2.1 u.2.2.2.2.2.2.2.2.2.2.2.2.2.2.2.1 u.2.2.2.2.2.2.2.2.2.2.2.2.2.2.2.2.1 u.2.2.2.2.2.2.2.2.2.2.2.2.2.2.2.2.2.1 u.2.2.2.2.2.2.2.2.2.2.2.2.2.2.2.2.2.2.1 u.2.2.2.2.2.2.2.2.2.2.2.2.2.2.2.2.2.2.2.1 u.2.2.2.2.2.2.2.2.2.2.2.2.2.2.2.2.2.2.2.2.1 u.2.2.2.2.2.2.2.2.2.2.2.2.2.2.2.2.2.2.2.2.2.1 u.2.2.2.2.2.2.2.2.2.2.2.2.2.2.2.2.2.2.2.2.2.2.1 u.2.2.2.2.2.2.2.2.2.2.2.2.2.2.2.2.2.2.2.2.2.2.2.1 (st.2) u.2.2.2.2.2.2.2.2.2.2.2.2.2.2.2.2.2.2.2.2.2.2.2.2.2.1 u.2.2.2.2.2.2.2.2.2.2.2.2.2.2.2.2.2.2.2.2.2.2.2.2.2.2.1 u.2.2.2.2.2.2.2.2.2.2.2.2.2.2.2.2.2.2.2.2.2.2.2.2.2.2.2)
    (fun i st => st.1 = nI (P i) ∧ (∀ j, j < i → j < (SL s).length → (SL s).getD j 0 = 1000 → st.2 j = nI (la_V S X s j (l + 1))) ∧ (∀ j, i ≤ j → j < (SL s).length → (SL s).getD j 0 = 1000 → st.2 j = nI (la_V S X s j l)))
    (SL s).length 0 (nI (B l), u.2.2.2.2.2.2.2.2.2.2.2.2.2.2.2.2.2.2.2.2.2.2.2.2.1) (by omega) ⟨by rw [hP0], fun j h => absurd h (by omega), fun j _ => hN j⟩
    (fun f st h => ?_) (fun f i st hi h hw => ?_)
  · obtain ⟨fr, b17⟩ := st
    obtain ⟨e1, g1, g2⟩ := h
    refine ⟨pk_in s 60 (by omega), ?_⟩
    rw [nI_clamp (show s < 2 ^ 31 by omega), ha7]
    exact pk_le (SL s).length (SL s).length (fun _ => H fr b17 (fun i hi => g1 i hi hi)) (fun z => absurd z (by omega))
  · obtain ⟨fr, b17⟩ := st
    obtain ⟨e1, g1, g2⟩ := h
    dsimp only at e1 g1 g2 ⊢
    refine ⟨pk_in s 60 (by omega), ?_⟩
    rw [nI_clamp (show s < 2 ^ 31 by omega), ha7]
    refine pk_le (SL s).length i (fun z => absurd z (by omega)) (fun _ => ⟨pk_in (8 * s + i) 480 (by omega) (la_ix s i), ?_⟩)
    rw [pk_cl (8 * s + i) (la_ix s i), ha8 i hi]
    have hgo := la_get_ok hr (show i < (X l).length by omega)
    have hbl : (SL s).getD i 0 = la_bl ((X l).getD i 0) := by
      rw [hSL, la_getD_map (by omega)]
    have hblt : (SL s).getD i 0 < 2000 := by
      rw [hbl]
      unfold la_bl
      split <;> omega
    obtain ⟨p1, p2, p3⟩ := hPs i (by omega)
    refine pk_eq ((SL s).getD i 0) 1000 (fun z => ⟨pk_in i 8 (by omega), ?_⟩) (fun z => nm_r (nI_1 i) ?_)
    · have hx : 1000 ≤ (X l).getD i 0 := by
        rw [hbl] at z
        exact (la_bl_eq hgo).mp z
      have hx2 := la_ok_lt hgo
      refine la_take (u := (u.1, u.2.1, u.2.2.1, u.2.2.2.1, u.2.2.2.2.1, u.2.2.2.2.2.1, u.2.2.2.2.2.2.1, fr, u.2.2.2.2.2.2.2.2.1, u.2.2.2.2.2.2.2.2.2.1, u.2.2.2.2.2.2.2.2.2.2.1, u.2.2.2.2.2.2.2.2.2.2.2.1, u.2.2.2.2.2.2.2.2.2.2.2.2.1, u.2.2.2.2.2.2.2.2.2.2.2.2.2.1, u.2.2.2.2.2.2.2.2.2.2.2.2.2.2.1, u.2.2.2.2.2.2.2.2.2.2.2.2.2.2.2.1, u.2.2.2.2.2.2.2.2.2.2.2.2.2.2.2.2.1, u.2.2.2.2.2.2.2.2.2.2.2.2.2.2.2.2.2.1, u.2.2.2.2.2.2.2.2.2.2.2.2.2.2.2.2.2.2.1, u.2.2.2.2.2.2.2.2.2.2.2.2.2.2.2.2.2.2.2.1, u.2.2.2.2.2.2.2.2.2.2.2.2.2.2.2.2.2.2.2.2.1, u.2.2.2.2.2.2.2.2.2.2.2.2.2.2.2.2.2.2.2.2.2.1, u.2.2.2.2.2.2.2.2.2.2.2.2.2.2.2.2.2.2.2.2.2.2.1, u.2.2.2.2.2.2.2.2.2.2.2.2.2.2.2.2.2.2.2.2.2.2.2.1, b17, u.2.2.2.2.2.2.2.2.2.2.2.2.2.2.2.2.2.2.2.2.2.2.2.2.2.1, u.2.2.2.2.2.2.2.2.2.2.2.2.2.2.2.2.2.2.2.2.2.2.2.2.2.2.1, u.2.2.2.2.2.2.2.2.2.2.2.2.2.2.2.2.2.2.2.2.2.2.2.2.2.2.2)) (la_cd_lt (la_V_lt (fun j hj => (hA3 j (by omega)).1)) (by omega)) (by omega) (p2 hx) e1 ⟨pk_in i 8 (by omega), nm_e (nm_r (nI_1 i) ?_)⟩
      dsimp only
      rw [nI_clamp (show i < 2 ^ 31 by omega), g2 i (by omega) hi z, la_dc_cd]
      refine hw (nI (P (i + 1)), upd b17 i _) ⟨rfl, fun j hj hj2 hb => ?_, fun j hj hj2 hb => ?_⟩
      · dsimp only
        by_cases e : j = i
        · rw [e, pk_us, la_V_y hs]
        · rw [pk_un e]
          exact g1 j (by omega) hj2 hb
      · dsimp only
        rw [pk_un (by omega)]
        exact g2 j (by omega) hj2 hb
    · have hx : (X l).getD i 0 < 1000 := by
        rcases Nat.lt_or_ge ((X l).getD i 0) 1000 with y | y
        · exact y
        · rw [hbl, la_bl_n y] at z
          exact absurd rfl z
      refine hw (fr, b17) ⟨by rw [p3 hx]; exact e1, fun j hj hj2 hb => ?_, fun j hj hj2 hb => g2 j (by omega) hj2 hb⟩
      by_cases e : j = i
      · rw [e] at hb
        exact absurd hb z
      · exact g1 j (by omega) hj2 hb
theorem la_readLine {post : St1 → Prop} {u : St1} {M n k l : Nat} {T : Nat → Nat} {X : Nat → List Nat} {S : Nat → Nat} {SL : Nat → List Nat} (hI : la_I1 M n k T X S SL u) (hl : l < n)
    (H : ∀ fr b16 b17, (∀ i, i < (X l).length → b16 i = nI ((X l).getD i 0)) → post (u.1, u.2.1, u.2.2.1, u.2.2.2.1, u.2.2.2.2.1, u.2.2.2.2.2.1, u.2.2.2.2.2.2.1, fr, u.2.2.2.2.2.2.2.2.1, u.2.2.2.2.2.2.2.2.2.1, u.2.2.2.2.2.2.2.2.2.2.1, u.2.2.2.2.2.2.2.2.2.2.2.1, u.2.2.2.2.2.2.2.2.2.2.2.2.1, u.2.2.2.2.2.2.2.2.2.2.2.2.2.1, u.2.2.2.2.2.2.2.2.2.2.2.2.2.2.1, u.2.2.2.2.2.2.2.2.2.2.2.2.2.2.2.1, u.2.2.2.2.2.2.2.2.2.2.2.2.2.2.2.2.1, u.2.2.2.2.2.2.2.2.2.2.2.2.2.2.2.2.2.1, u.2.2.2.2.2.2.2.2.2.2.2.2.2.2.2.2.2.2.1, u.2.2.2.2.2.2.2.2.2.2.2.2.2.2.2.2.2.2.2.1, u.2.2.2.2.2.2.2.2.2.2.2.2.2.2.2.2.2.2.2.2.1, u.2.2.2.2.2.2.2.2.2.2.2.2.2.2.2.2.2.2.2.2.2.1, u.2.2.2.2.2.2.2.2.2.2.2.2.2.2.2.2.2.2.2.2.2.2.1, b16, b17, u.2.2.2.2.2.2.2.2.2.2.2.2.2.2.2.2.2.2.2.2.2.2.2.2.2.1, u.2.2.2.2.2.2.2.2.2.2.2.2.2.2.2.2.2.2.2.2.2.2.2.2.2.2.1, u.2.2.2.2.2.2.2.2.2.2.2.2.2.2.2.2.2.2.2.2.2.2.2.2.2.2.2)) : wpX_readLine post u (nI l) := by
  have hI' := hI
  obtain ⟨hA, hln, hsh, hB, hC, hD⟩ := hI'
  obtain ⟨hA1, hA2, hA3, hA4, hA5⟩ := hA
  obtain ⟨hr, hT, hsk, hSL⟩ := hA3 l hl
  have hlen : (SL (S l)).length = (X l).length := by
    rw [hSL, List.length_map]
  have hlen8 := hr.2.1
  obtain ⟨ha7, ha8, _⟩ := hB.2.1 (S l) hsk
  unfold wpX_readLine
  refine ⟨pk_in l 60 (by omega), nm_r (e' := nI (S l)) (by rw [nI_clamp (show l < 2 ^ 31 by omega)]; exact (hB.1 l hl).2) ?_⟩
  refine pk_loop (σ := Nat → Int32) (fun f i b => wX_readLine_9 post (nI l) (nI (S l)) u.1 u.2.1 u.2.2.1 u.2.2.2.1 u.2.2.2.2.1 u.2.2.2.2.2.1 u.2.2.2.2.2.2.1 u.2.2.2.2.2.2.2.1 f (nI i) u.2.2.2.2.2.2.2.2.1 u.2.2.2.2.2.2.2.2.2.1 u.2.2.2.2.2.2.2.2.2.2.1 u.2.2.2.2.2.2.2.2.2.2.2.1 u.2.2.2.2.2.2.2.2.2.2.2.2.1 u.2.2.2.2.2.2.2.2.2.2.2.2.2.1 u.2.2.2.2.2.2.2.2.2.2.2.2.2.2.1 u.2.2.2.2.2.2.2.2.2.2.2.2.2.2.2.1 u.2.2.2.2.2.2.2.2.2.2.2.2.2.2.2.2.1 u.2.2.2.2.2.2.2.2.2.2.2.2.2.2.2.2.2.1 u.2.2.2.2.2.2.2.2.2.2.2.2.2.2.2.2.2.2.1 u.2.2.2.2.2.2.2.2.2.2.2.2.2.2.2.2.2.2.2.1 u.2.2.2.2.2.2.2.2.2.2.2.2.2.2.2.2.2.2.2.2.1 u.2.2.2.2.2.2.2.2.2.2.2.2.2.2.2.2.2.2.2.2.2.1 u.2.2.2.2.2.2.2.2.2.2.2.2.2.2.2.2.2.2.2.2.2.2.1 u.2.2.2.2.2.2.2.2.2.2.2.2.2.2.2.2.2.2.2.2.2.2.2.1 (b) u.2.2.2.2.2.2.2.2.2.2.2.2.2.2.2.2.2.2.2.2.2.2.2.2.2.1 u.2.2.2.2.2.2.2.2.2.2.2.2.2.2.2.2.2.2.2.2.2.2.2.2.2.2.1 u.2.2.2.2.2.2.2.2.2.2.2.2.2.2.2.2.2.2.2.2.2.2.2.2.2.2.2) (fun i b => ∀ j, j < i → b j = 0) 8 0 u.2.2.2.2.2.2.2.2.2.2.2.2.2.2.2.2.2.2.2.2.2.2.2.2.1 (by omega) (fun j h => absurd h (by omega))
    (fun f b h => pk_le 8 8 (fun _ => ?_) (fun z => absurd z (by omega))) (fun f i b hi h hw => pk_le 8 i (fun z => absurd z (by omega)) (fun _ => ⟨pk_in i 8 hi, nm_e (nm_r (nI_1 i) (hw _ (fun j hj => ?_)))⟩))
  · refine pk_loop (σ := Int32 × (Nat → Int32)) (fun f i st => wX_readLine_30 post (nI l) (nI (S l)) f (nI i) u.1 u.2.1 u.2.2.1 u.2.2.2.1 u.2.2.2.2.1 u.2.2.2.2.2.1 u.2.2.2.2.2.2.1 (st.1) u.2.2.2.2.2.2.2.2.1 u.2.2.2.2.2.2.2.2.2.1 u.2.2.2.2.2.2.2.2.2.2.1 u.2.2.2.2.2.2.2.2.2.2.2.1 u.2.2.2.2.2.2.2.2.2.2.2.2.1 u.2.2.2.2.2.2.2.2.2.2.2.2.2.1 u.2.2.2.2.2.2.2.2.2.2.2.2.2.2.1 u.2.2.2.2.2.2.2.2.2.2.2.2.2.2.2.1 u.2.2.2.2.2.2.2.2.2.2.2.2.2.2.2.2.1 u.2.2.2.2.2.2.2.2.2.2.2.2.2.2.2.2.2.1 u.2.2.2.2.2.2.2.2.2.2.2.2.2.2.2.2.2.2.1 u.2.2.2.2.2.2.2.2.2.2.2.2.2.2.2.2.2.2.2.1 u.2.2.2.2.2.2.2.2.2.2.2.2.2.2.2.2.2.2.2.2.1 u.2.2.2.2.2.2.2.2.2.2.2.2.2.2.2.2.2.2.2.2.2.1 u.2.2.2.2.2.2.2.2.2.2.2.2.2.2.2.2.2.2.2.2.2.2.1 u.2.2.2.2.2.2.2.2.2.2.2.2.2.2.2.2.2.2.2.2.2.2.2.1 (st.2) u.2.2.2.2.2.2.2.2.2.2.2.2.2.2.2.2.2.2.2.2.2.2.2.2.2.1 u.2.2.2.2.2.2.2.2.2.2.2.2.2.2.2.2.2.2.2.2.2.2.2.2.2.2.1 u.2.2.2.2.2.2.2.2.2.2.2.2.2.2.2.2.2.2.2.2.2.2.2.2.2.2.2) (fun i st => la_N S X SL (S l) i st.2) (l + 1) 0 (u.2.2.2.2.2.2.2.1, b) (by omega) (fun i hi _ => ?_)
      (fun f st h => pk_lt l (l + 1) (fun _ => ?_) (fun z => absurd z (by omega))) (fun f i st hi h hw => pk_lt l i (fun z => absurd z (by omega)) (fun _ => ⟨pk_in i 60 (by omega), ?_⟩))
    · dsimp only
      rw [h i (by omega)]
      rfl
    · obtain ⟨fr, b17⟩ := st
      refine pk_loop (σ := Nat → Int32) (fun f i c => wX_readLine_59 post (nI (S l)) u.1 u.2.1 u.2.2.1 u.2.2.2.1 u.2.2.2.2.1 u.2.2.2.2.2.1 u.2.2.2.2.2.2.1 (fr) f (nI i) u.2.2.2.2.2.2.2.2.1 u.2.2.2.2.2.2.2.2.2.1 u.2.2.2.2.2.2.2.2.2.2.1 u.2.2.2.2.2.2.2.2.2.2.2.1 u.2.2.2.2.2.2.2.2.2.2.2.2.1 u.2.2.2.2.2.2.2.2.2.2.2.2.2.1 u.2.2.2.2.2.2.2.2.2.2.2.2.2.2.1 u.2.2.2.2.2.2.2.2.2.2.2.2.2.2.2.1 u.2.2.2.2.2.2.2.2.2.2.2.2.2.2.2.2.1 u.2.2.2.2.2.2.2.2.2.2.2.2.2.2.2.2.2.1 u.2.2.2.2.2.2.2.2.2.2.2.2.2.2.2.2.2.2.1 u.2.2.2.2.2.2.2.2.2.2.2.2.2.2.2.2.2.2.2.1 u.2.2.2.2.2.2.2.2.2.2.2.2.2.2.2.2.2.2.2.2.1 u.2.2.2.2.2.2.2.2.2.2.2.2.2.2.2.2.2.2.2.2.2.1 u.2.2.2.2.2.2.2.2.2.2.2.2.2.2.2.2.2.2.2.2.2.2.1 (c) (b17) u.2.2.2.2.2.2.2.2.2.2.2.2.2.2.2.2.2.2.2.2.2.2.2.2.2.1 u.2.2.2.2.2.2.2.2.2.2.2.2.2.2.2.2.2.2.2.2.2.2.2.2.2.2.1 u.2.2.2.2.2.2.2.2.2.2.2.2.2.2.2.2.2.2.2.2.2.2.2.2.2.2.2) (fun i c => ∀ j, j < i → c j = nI ((X l).getD j 0)) (X l).length 0 u.2.2.2.2.2.2.2.2.2.2.2.2.2.2.2.2.2.2.2.2.2.2.2.1 (by omega) (fun j h => absurd h (by omega))
        (fun f c g => ⟨pk_in (S l) 60 (by omega), ?_⟩) (fun f i c hi g hw => ⟨pk_in (S l) 60 (by omega), ?_⟩)
      · rw [nI_clamp (show S l < 2 ^ 31 by omega), ha7, hlen]
        exact pk_le (X l).length (X l).length (fun _ => H fr c b17 g) (fun z => absurd z (by omega))
      · rw [nI_clamp (show S l < 2 ^ 31 by omega), ha7, hlen]
        refine pk_le (X l).length i (fun z => absurd z (by omega)) (fun _ => ⟨pk_in (8 * S l + i) 480 (by omega) (la_ix (S l) i), ?_⟩)
        rw [pk_cl (8 * S l + i) (la_ix (S l) i), ha8 i (by omega)]
        have hgo := la_get_ok hr hi
        have hbl : (SL (S l)).getD i 0 = la_bl ((X l).getD i 0) := by
          rw [hSL, la_getD_map hi]
        have hfill : ∀ v : Int32, v = nI ((X l).getD i 0) → ∀ j, j < i + 1 → upd c i v j = nI ((X l).getD j 0) := by
          intro v hv j hj
          by_cases e : j = i
          · rw [e, pk_us, hv]
          · rw [pk_un e]
            exact g j (by omega)
        refine nm_e (pk_eq ((SL (S l)).getD i 0) 1000 (fun z => ⟨pk_in i 8 (by omega), pk_in i 8 (by omega), nm_e (nm_r (nI_1 i) ?_)⟩) (fun z => ⟨pk_in i 8 (by omega), nm_e (nm_r (nI_1 i) ?_)⟩) rfl rfl (by rw [hbl]; unfold la_bl; split <;> omega))
        · have hx : 1000 ≤ (X l).getD i 0 := by
            rw [hbl] at z
            exact (la_bl_eq hgo).mp z
          have hv : b17 i = nI ((X l).getD i 0 - 1000) := (h i (by omega) z).trans (by rw [la_V_y rfl])
          rw [nI_clamp (show i < 2 ^ 31 by omega), hv]
          refine hw _ (hfill _ ?_)
          show nI 1000 + nI _ = _
          rw [nI_add]
          congr 1
          omega
        · have hx : (X l).getD i 0 < 1000 := by
            rcases Nat.lt_or_ge ((X l).getD i 0) 1000 with y | y
            · exact y
            · rw [hbl, la_bl_n y] at z
              exact absurd rfl z
          rw [nI_clamp (show i < 2 ^ 31 by omega)]
          refine hw _ (hfill _ ?_)
          rw [hbl, la_bl_w hx]
    · obtain ⟨fr, b17⟩ := st
      rw [nI_clamp (show i < 2 ^ 31 by omega), (hB.1 i (by omega)).2]
      have hsi := (hA3 i (by omega)).2.2.1
      refine pk_eq (S i) (S l) (fun z => ?_) (fun z => nm_r (nI_1 i) (hw (fr, b17) (la_N_skip h z)))
      exact la_addLine (u := (u.1, u.2.1, u.2.2.1, u.2.2.2.1, u.2.2.2.2.1, u.2.2.2.2.2.1, u.2.2.2.2.2.2.1, fr, u.2.2.2.2.2.2.2.2.1, u.2.2.2.2.2.2.2.2.2.1, u.2.2.2.2.2.2.2.2.2.2.1, u.2.2.2.2.2.2.2.2.2.2.2.1, u.2.2.2.2.2.2.2.2.2.2.2.2.1, u.2.2.2.2.2.2.2.2.2.2.2.2.2.1, u.2.2.2.2.2.2.2.2.2.2.2.2.2.2.1, u.2.2.2.2.2.2.2.2.2.2.2.2.2.2.2.1, u.2.2.2.2.2.2.2.2.2.2.2.2.2.2.2.2.1, u.2.2.2.2.2.2.2.2.2.2.2.2.2.2.2.2.2.1, u.2.2.2.2.2.2.2.2.2.2.2.2.2.2.2.2.2.2.1, u.2.2.2.2.2.2.2.2.2.2.2.2.2.2.2.2.2.2.2.1, u.2.2.2.2.2.2.2.2.2.2.2.2.2.2.2.2.2.2.2.2.1, u.2.2.2.2.2.2.2.2.2.2.2.2.2.2.2.2.2.2.2.2.2.1, u.2.2.2.2.2.2.2.2.2.2.2.2.2.2.2.2.2.2.2.2.2.2.1, u.2.2.2.2.2.2.2.2.2.2.2.2.2.2.2.2.2.2.2.2.2.2.2.1, b17, u.2.2.2.2.2.2.2.2.2.2.2.2.2.2.2.2.2.2.2.2.2.2.2.2.2.1, u.2.2.2.2.2.2.2.2.2.2.2.2.2.2.2.2.2.2.2.2.2.2.2.2.2.2.1, u.2.2.2.2.2.2.2.2.2.2.2.2.2.2.2.2.2.2.2.2.2.2.2.2.2.2.2)) (la_I1_q (u := u) rfl hI) (by omega) z h (fun fr' c17 g => nm_r (nI_1 i) (hw (fr', c17) g))
  · rw [nI_clamp (show i < 2 ^ 31 by omega)]
    by_cases e : j = i
    · rw [e, pk_us]
    · rw [pk_un e]
      exact h j (by omega)
theorem la_clear {post : St1 → Prop} {u : St1} (H : ∀ b17, (∀ j, j < 8 → b17 j = 0) → post (u.1, u.2.1, u.2.2.1, u.2.2.2.1, u.2.2.2.2.1, u.2.2.2.2.2.1, u.2.2.2.2.2.2.1, u.2.2.2.2.2.2.2.1, u.2.2.2.2.2.2.2.2.1, u.2.2.2.2.2.2.2.2.2.1, u.2.2.2.2.2.2.2.2.2.2.1, u.2.2.2.2.2.2.2.2.2.2.2.1, u.2.2.2.2.2.2.2.2.2.2.2.2.1, u.2.2.2.2.2.2.2.2.2.2.2.2.2.1, u.2.2.2.2.2.2.2.2.2.2.2.2.2.2.1, u.2.2.2.2.2.2.2.2.2.2.2.2.2.2.2.1, u.2.2.2.2.2.2.2.2.2.2.2.2.2.2.2.2.1, u.2.2.2.2.2.2.2.2.2.2.2.2.2.2.2.2.2.1, u.2.2.2.2.2.2.2.2.2.2.2.2.2.2.2.2.2.2.1, u.2.2.2.2.2.2.2.2.2.2.2.2.2.2.2.2.2.2.2.1, u.2.2.2.2.2.2.2.2.2.2.2.2.2.2.2.2.2.2.2.2.1, u.2.2.2.2.2.2.2.2.2.2.2.2.2.2.2.2.2.2.2.2.2.1, u.2.2.2.2.2.2.2.2.2.2.2.2.2.2.2.2.2.2.2.2.2.2.1, u.2.2.2.2.2.2.2.2.2.2.2.2.2.2.2.2.2.2.2.2.2.2.2.1, b17, u.2.2.2.2.2.2.2.2.2.2.2.2.2.2.2.2.2.2.2.2.2.2.2.2.2.1, u.2.2.2.2.2.2.2.2.2.2.2.2.2.2.2.2.2.2.2.2.2.2.2.2.2.2.1, u.2.2.2.2.2.2.2.2.2.2.2.2.2.2.2.2.2.2.2.2.2.2.2.2.2.2.2)) : wpX_clearNumbers post u := by
  unfold wpX_clearNumbers
  refine pk_loop (σ := Nat → Int32) (fun f i b => wX_clearNumbers_2 post u.1 u.2.1 u.2.2.1 u.2.2.2.1 u.2.2.2.2.1 u.2.2.2.2.2.1 u.2.2.2.2.2.2.1 u.2.2.2.2.2.2.2.1 f (nI i) u.2.2.2.2.2.2.2.2.1 u.2.2.2.2.2.2.2.2.2.1 u.2.2.2.2.2.2.2.2.2.2.1 u.2.2.2.2.2.2.2.2.2.2.2.1 u.2.2.2.2.2.2.2.2.2.2.2.2.1 u.2.2.2.2.2.2.2.2.2.2.2.2.2.1 u.2.2.2.2.2.2.2.2.2.2.2.2.2.2.1 u.2.2.2.2.2.2.2.2.2.2.2.2.2.2.2.1 u.2.2.2.2.2.2.2.2.2.2.2.2.2.2.2.2.1 u.2.2.2.2.2.2.2.2.2.2.2.2.2.2.2.2.2.1 u.2.2.2.2.2.2.2.2.2.2.2.2.2.2.2.2.2.2.1 u.2.2.2.2.2.2.2.2.2.2.2.2.2.2.2.2.2.2.2.1 u.2.2.2.2.2.2.2.2.2.2.2.2.2.2.2.2.2.2.2.2.1 u.2.2.2.2.2.2.2.2.2.2.2.2.2.2.2.2.2.2.2.2.2.1 u.2.2.2.2.2.2.2.2.2.2.2.2.2.2.2.2.2.2.2.2.2.2.1 u.2.2.2.2.2.2.2.2.2.2.2.2.2.2.2.2.2.2.2.2.2.2.2.1 (b) u.2.2.2.2.2.2.2.2.2.2.2.2.2.2.2.2.2.2.2.2.2.2.2.2.2.1 u.2.2.2.2.2.2.2.2.2.2.2.2.2.2.2.2.2.2.2.2.2.2.2.2.2.2.1 u.2.2.2.2.2.2.2.2.2.2.2.2.2.2.2.2.2.2.2.2.2.2.2.2.2.2.2) (fun i b => ∀ j, j < i → b j = 0) 8 0 u.2.2.2.2.2.2.2.2.2.2.2.2.2.2.2.2.2.2.2.2.2.2.2.2.1 (by omega) (fun j h => absurd h (by omega))
    (fun f b h => pk_le 8 8 (fun _ => H b h) (fun z => absurd z (by omega))) (fun f i b hi h hw => pk_le 8 i (fun z => absurd z (by omega)) (fun _ => ⟨pk_in i 8 hi, nm_e (nm_r (nI_1 i) (hw _ (fun j hj => ?_)))⟩))
  rw [nI_clamp (show i < 2 ^ 31 by omega)]
  by_cases e : j = i
  · rw [e, pk_us]
  · rw [pk_un e]
    exact h j (by omega)
theorem la_N_0 {S : Nat → Nat} {X : Nat → List Nat} {SL : Nat → List Nat} {s : Nat} {a : Nat → Int32} (h8 : (SL s).length ≤ 8) (h : ∀ j, j < 8 → a j = 0) : la_N S X SL s 0 a := fun i hi _ => by
  rw [h i (by omega)]
  rfl
end
section
/-! queries that change nothing but from, read and numbers -/
theorem la_linesQ {post : Int32 → Prop} {u : St1} {n k : Nat} {T : Nat → Nat} {X : Nat → List Nat} {S : Nat → Nat} {SL : Nat → List Nat} (hI : la_I n k T X S SL u) (H : post (nI n)) : wpX_lines post u := by
  unfold wpX_lines
  show post u.2.2.1
  rw [hI.1.2.1]
  exact H
theorem la_groupsQ {post : Int32 → Prop} {u : St1} {n k : Nat} {T : Nat → Nat} {X : Nat → List Nat} {S : Nat → Nat} {SL : Nat → List Nat} (hI : la_I n k T X S SL u) (H : post (nI k)) : wpX_groups post u := by
  unfold wpX_groups
  show post u.2.2.2.1
  rw [hI.1.2.2.1]
  exact H
theorem la_timeQ {post : Int32 → Prop} {u : St1} {n k l : Nat} {T : Nat → Nat} {X : Nat → List Nat} {S : Nat → Nat} {SL : Nat → List Nat} (hI : la_I n k T X S SL u) (hl : l < n) (H : post (nI (T l))) : wpX_time post u (nI l) := by
  obtain ⟨⟨⟨hA1, hA2, hA3, hA4, hA5⟩, hln, hsh, hB, hC, hD⟩, hO⟩ := hI
  unfold wpX_time
  refine la_isLine hln hA1 hl (br_f (by decide) ⟨pk_in l 60 (by omega), ?_⟩)
  rw [nI_clamp (show l < 2 ^ 31 by omega), (hB.1 l hl).1]
  exact H
theorem la_lengthQ {post : Int32 → Prop} {u : St1} {n k l : Nat} {T : Nat → Nat} {X : Nat → List Nat} {S : Nat → Nat} {SL : Nat → List Nat} (hI : la_I n k T X S SL u) (hl : l < n) (H : post (nI (X l).length)) : wpX_length post u (nI l) := by
  obtain ⟨⟨⟨hA1, hA2, hA3, hA4, hA5⟩, hln, hsh, hB, hC, hD⟩, hO⟩ := hI
  obtain ⟨hr, hT, hsk, hSL⟩ := hA3 l hl
  have hlen : (SL (S l)).length = (X l).length := by
    rw [hSL, List.length_map]
  unfold wpX_length
  refine la_isLine hln hA1 hl (br_f (by decide) ⟨pk_in l 60 (by omega), ?_⟩)
  rw [nI_clamp (show l < 2 ^ 31 by omega), (hB.1 l hl).2]
  refine ⟨pk_in (S l) 60 (by omega), ?_⟩
  rw [nI_clamp (show S l < 2 ^ 31 by omega), (hB.2.1 (S l) hsk).1, hlen]
  exact H
theorem la_cnt {w : Int64} {n : Nat} {p : Nat → Prop} [DecidablePred p] (hn : n ≤ 60) (h : ∀ j, j < 64 → la_bt w j = decide (j < n ∧ p j)) : la_cn (la_bt w) 60 = la_cn (fun j => decide (p j)) n := by
  rw [la_cn_ext hn (fun j h1 h2 => by rw [h j (by omega)]; exact decide_eq_false (fun z => by omega))]
  refine la_cn_congr (fun j hj => ?_)
  rw [h j (by omega)]
  exact decide_eq_decide.mpr ⟨fun z => z.2, fun z => ⟨hj, z⟩⟩
theorem la_membersQ {post : Int32 → Prop} {u : St1} {n k l : Nat} {T : Nat → Nat} {X : Nat → List Nat} {S : Nat → Nat} {SL : Nat → List Nat} (hI : la_I n k T X S SL u) (hl : l < n) (H : post (nI (la_c S n (S l)))) : wpX_members post u (nI l) := by
  obtain ⟨⟨⟨hA1, hA2, hA3, hA4, hA5⟩, hln, hsh, hB, hC, hD⟩, hO⟩ := hI
  obtain ⟨hr, hT, hsk, hSL⟩ := hA3 l hl
  unfold wpX_members
  refine la_isLine hln hA1 hl (br_f (by decide) ⟨pk_in l 60 (by omega), ?_⟩)
  rw [nI_clamp (show l < 2 ^ 31 by omega), (hB.1 l hl).2]
  refine ⟨pk_in (S l) 60 (by omega), ?_⟩
  rw [nI_clamp (show S l < 2 ^ 31 by omega)]
  refine la_ones ?_
  rw [la_cnt hA1 (hB.2.1 (S l) hsk).2.2]
  exact H
theorem la_firstOf {post : Int32 → Prop} {u : St1} {n k s : Nat} {T : Nat → Nat} {X : Nat → List Nat} {S : Nat → Nat} {SL : Nat → List Nat} (hI : la_I n k T X S SL u) (hs : s < k) (H : ∀ f, f < n → la_fst S s f → post (nI f)) : wpX_firstOf post u (nI s) := by
  obtain ⟨⟨⟨hA1, hA2, hA3, hA4, hA5⟩, hln, hsh, hB, hC, hD⟩, hO⟩ := hI
  have hb := (hB.2.1 s hs).2.2
  obtain ⟨l, hl, hSl⟩ := hO.2.1 s hs
  unfold wpX_firstOf
  refine ⟨pk_in s 60 (by omega), ?_⟩
  rw [nI_clamp (show s < 2 ^ 31 by omega)]
  refine la_lowest (fun f h1 h2 h3 => ?_)
  have hfl : f ≤ l := by
    rcases Nat.lt_or_ge l f with z | z
    · have y := h2 l z
      rw [hb l (by omega)] at y
      exact absurd ⟨hl, hSl⟩ (of_decide_eq_false y)
    · exact z
  have hf := h3 (by omega)
  rw [hb f (by omega)] at hf
  have hf' := of_decide_eq_true hf
  refine H f hf'.1 ⟨hf'.2, fun j hj e => ?_⟩
  have y := h2 j hj
  rw [hb j (by omega)] at y
  exact of_decide_eq_false y ⟨by omega, e⟩
theorem la_groupQ {post : Int32 → Prop} {u : St1} {n k l : Nat} {T : Nat → Nat} {X : Nat → List Nat} {S : Nat → Nat} {SL : Nat → List Nat} (hI : la_I n k T X S SL u) (hl : l < n) (H : ∀ f, f ≤ l → la_fst S (S l) f → post (nI f)) : wpX_group post u (nI l) := by
  have hI' := hI
  obtain ⟨⟨⟨hA1, hA2, hA3, hA4, hA5⟩, hln, hsh, hB, hC, hD⟩, hO⟩ := hI'
  obtain ⟨hr, hT, hsk, hSL⟩ := hA3 l hl
  unfold wpX_group
  refine la_isLine hln hA1 hl (br_f (by decide) ⟨pk_in l 60 (by omega), ?_⟩)
  rw [nI_clamp (show l < 2 ^ 31 by omega), (hB.1 l hl).2]
  refine la_firstOf hI hsk (fun f h1 h2 => H f ?_ h2)
  rcases Nat.lt_or_ge l f with z | z
  · exact absurd rfl (h2.2 l z)
  · exact z
theorem la_atQ {post : Int32 → St1 → Prop} {u : St1} {n k l i : Nat} {T : Nat → Nat} {X : Nat → List Nat} {S : Nat → Nat} {SL : Nat → List Nat} (hI : la_I n k T X S SL u) (hl : l < n) (hi : i < (X l).length) (H : ∀ u', la_q u' = la_q u → post (nI ((X l).getD i 0)) u') : wpX_at post u (nI l) (nI i) := by
  have hI' := hI
  obtain ⟨⟨⟨hA1, hA2, hA3, hA4, hA5⟩, hln, hsh, hB, hC, hD⟩, hO⟩ := hI'
  obtain ⟨hr, hT, hsk, hSL⟩ := hA3 l hl
  have hlen : (SL (S l)).length = (X l).length := by
    rw [hSL, List.length_map]
  have hlen8 := hr.2.1
  unfold wpX_at
  refine la_isLine hln hA1 hl (br_f (by decide) (br_f (nI_pos (by omega)) ⟨pk_in l 60 (by omega), ?_⟩))
  rw [nI_clamp (show l < 2 ^ 31 by omega), (hB.1 l hl).2]
  refine ⟨pk_in (S l) 60 (by omega), ?_⟩
  rw [nI_clamp (show S l < 2 ^ 31 by omega), (hB.2.1 (S l) hsk).1, hlen]
  refine pk_lt i (X l).length (fun _ => ?_) (fun z => absurd z (by omega))
  refine la_readLine hI.1 hl (fun fr b16 b17 g => ⟨pk_in i 8 (by omega), ?_⟩)
  dsimp only
  rw [nI_clamp (show i < 2 ^ 31 by omega), g i hi]
  exact H _ rfl
theorem la_recall {post : Int32 → St1 → Prop} {u : St1} {n k l : Nat} {T : Nat → Nat} {X : Nat → List Nat} {S : Nat → Nat} {SL : Nat → List Nat} (hI : la_I n k T X S SL u) (hl : l < n) (H : ∀ fr b1 b16 b17, la_dr (X l) (nI (X l).length) b1 → post (nI (X l).length) (nI (X l).length, u.2.1, u.2.2.1, u.2.2.2.1, u.2.2.2.2.1, u.2.2.2.2.2.1, u.2.2.2.2.2.2.1, fr, b1, u.2.2.2.2.2.2.2.2.2.1, u.2.2.2.2.2.2.2.2.2.2.1, u.2.2.2.2.2.2.2.2.2.2.2.1, u.2.2.2.2.2.2.2.2.2.2.2.2.1, u.2.2.2.2.2.2.2.2.2.2.2.2.2.1, u.2.2.2.2.2.2.2.2.2.2.2.2.2.2.1, u.2.2.2.2.2.2.2.2.2.2.2.2.2.2.2.1, u.2.2.2.2.2.2.2.2.2.2.2.2.2.2.2.2.1, u.2.2.2.2.2.2.2.2.2.2.2.2.2.2.2.2.2.1, u.2.2.2.2.2.2.2.2.2.2.2.2.2.2.2.2.2.2.1, u.2.2.2.2.2.2.2.2.2.2.2.2.2.2.2.2.2.2.2.1, u.2.2.2.2.2.2.2.2.2.2.2.2.2.2.2.2.2.2.2.2.1, u.2.2.2.2.2.2.2.2.2.2.2.2.2.2.2.2.2.2.2.2.2.1, u.2.2.2.2.2.2.2.2.2.2.2.2.2.2.2.2.2.2.2.2.2.2.1, b16, b17, u.2.2.2.2.2.2.2.2.2.2.2.2.2.2.2.2.2.2.2.2.2.2.2.2.2.1, u.2.2.2.2.2.2.2.2.2.2.2.2.2.2.2.2.2.2.2.2.2.2.2.2.2.2.1, u.2.2.2.2.2.2.2.2.2.2.2.2.2.2.2.2.2.2.2.2.2.2.2.2.2.2.2)) : wpX_recall post u (nI l) := by
  have hI' := hI
  obtain ⟨⟨⟨hA1, hA2, hA3, hA4, hA5⟩, hln, hsh, hB, hC, hD⟩, hO⟩ := hI'
  obtain ⟨hr, hT, hsk, hSL⟩ := hA3 l hl
  have hlen : (SL (S l)).length = (X l).length := by
    rw [hSL, List.length_map]
  have hlen8 := hr.2.1
  unfold wpX_recall
  refine la_isLine hln hA1 hl (br_f (by decide) ?_)
  refine la_readLine hI.1 hl (fun fr b16 b17 g => ⟨pk_in l 60 (by omega), ?_⟩)
  dsimp only
  rw [nI_clamp (show l < 2 ^ 31 by omega), (hB.1 l hl).2]
  refine ⟨pk_in (S l) 60 (by omega), ?_⟩
  rw [nI_clamp (show S l < 2 ^ 31 by omega), (hB.2.1 (S l) hsk).1, hlen]
  refine nm_e ?_
  refine pk_loop (σ := Nat → Int32) (fun f i b => wX_recall_32 post (nI (X l).length) u.2.1 u.2.2.1 u.2.2.2.1 u.2.2.2.2.1 u.2.2.2.2.2.1 u.2.2.2.2.2.2.1 (fr) f (nI i) (b) u.2.2.2.2.2.2.2.2.2.1 u.2.2.2.2.2.2.2.2.2.2.1 u.2.2.2.2.2.2.2.2.2.2.2.1 u.2.2.2.2.2.2.2.2.2.2.2.2.1 u.2.2.2.2.2.2.2.2.2.2.2.2.2.1 u.2.2.2.2.2.2.2.2.2.2.2.2.2.2.1 u.2.2.2.2.2.2.2.2.2.2.2.2.2.2.2.1 u.2.2.2.2.2.2.2.2.2.2.2.2.2.2.2.2.1 u.2.2.2.2.2.2.2.2.2.2.2.2.2.2.2.2.2.1 u.2.2.2.2.2.2.2.2.2.2.2.2.2.2.2.2.2.2.1 u.2.2.2.2.2.2.2.2.2.2.2.2.2.2.2.2.2.2.2.1 u.2.2.2.2.2.2.2.2.2.2.2.2.2.2.2.2.2.2.2.2.1 u.2.2.2.2.2.2.2.2.2.2.2.2.2.2.2.2.2.2.2.2.2.1 u.2.2.2.2.2.2.2.2.2.2.2.2.2.2.2.2.2.2.2.2.2.2.1 (b16) (b17) u.2.2.2.2.2.2.2.2.2.2.2.2.2.2.2.2.2.2.2.2.2.2.2.2.2.1 u.2.2.2.2.2.2.2.2.2.2.2.2.2.2.2.2.2.2.2.2.2.2.2.2.2.2.1 u.2.2.2.2.2.2.2.2.2.2.2.2.2.2.2.2.2.2.2.2.2.2.2.2.2.2.2) (fun i b => ∀ j, j < i → b j = nI ((X l).getD j 0)) (X l).length 0 u.2.2.2.2.2.2.2.2.1 (by omega) (fun j h => absurd h (by omega))
    (fun f b h => pk_le (X l).length (X l).length (fun _ => H fr b b16 b17 ⟨rfl, h⟩) (fun z => absurd z (by omega))) (fun f i b hi h hw => pk_le (X l).length i (fun z => absurd z (by omega)) (fun _ => ⟨pk_in i 8 (by omega), pk_in i 8 (by omega), nm_e (nm_r (nI_1 i) (hw _ (fun j hj => ?_)))⟩))
  rw [nI_clamp (show i < 2 ^ 31 by omega)]
  by_cases e : j = i
  · rw [e, pk_us]
    exact g i hi
  · rw [pk_un e]
    exact h j (by omega)
theorem la_isItem {post : Int32 → Prop} {x : Nat} (hx : la_ok x) (H : post 1) : wpX_isItem post () (nI x) := by
  have h2 := la_ok_lt hx
  unfold wpX_isItem
  refine br_f (nI_pos (by omega)) (pk_lt x 24 (fun _ => H) (fun z => ?_))
  unfold wX_isItem_10
  exact la_isNumber hx (fun y => absurd y (by omega)) (fun _ _ => br_f (by decide) H)
theorem la_mem {x : List Nat} {y : Nat} : y ∈ x ↔ ∃ i, i < x.length ∧ x.getD i 0 = y := by
  rw [List.mem_iff_getElem]
  constructor
  · rintro ⟨i, hi, e⟩
    exact ⟨i, hi, by rw [la_getD hi]; exact e⟩
  · rintro ⟨i, hi, e⟩
    exact ⟨i, hi, by rw [← la_getD hi]; exact e⟩
theorem la_hasNumber {post : Int32 → Prop} {u : St1} {M n k l s v : Nat} {T : Nat → Nat} {X : Nat → List Nat} {S : Nat → Nat} {SL : Nat → List Nat} (hI : la_I1 M n k T X S SL u) (hl : l < n) (hs : S l = s) (hv : v < 1000) (hN : la_N S X SL s (l + 1) u.2.2.2.2.2.2.2.2.2.2.2.2.2.2.2.2.2.2.2.2.2.2.2.2.1)
    (H1 : v + 1000 ∈ X l → post 1) (H0 : v + 1000 ∉ X l → post 0) : wpX_hasNumber post u (nI s) (nI v) := by
  obtain ⟨⟨hA1, hA2, hA3, hA4, hA5⟩, hln, hsh, hB, hC, hD⟩ := hI
  obtain ⟨hr, hT, hsk, hSL⟩ := hA3 l hl
  rw [hs] at hsk hSL
  have hlen : (SL s).length = (X l).length := by
    rw [hSL, List.length_map]
  have hlen8 := hr.2.1
  obtain ⟨ha7, ha8, _⟩ := hB.2.1 s hsk
  obtain ⟨c, c1, c2, c3⟩ := la_find (fun i => decide ((X l).getD i 0 = v + 1000)) (X l).length
  unfold wpX_hasNumber
  have hbl : ∀ i, i < (X l).length → (SL s).getD i 0 = la_bl ((X l).getD i 0) := fun i hi => by
    rw [hSL, la_getD_map hi]
  have hblt : ∀ i, i < (X l).length → (SL s).getD i 0 < 2 ^ 31 := fun i hi => by
    rw [hbl i hi]
    unfold la_bl
    split <;> omega
  have hnum : ∀ i, i < (X l).length → (SL s).getD i 0 = 1000 → u.2.2.2.2.2.2.2.2.2.2.2.2.2.2.2.2.2.2.2.2.2.2.2.2.1 i = nI ((X l).getD i 0 - 1000) ∧ 1000 ≤ (X l).getD i 0 ∧ (X l).getD i 0 < 2000 := fun i hi z => by
    have z' := z
    rw [hbl i hi] at z'
    refine ⟨?_, (la_bl_eq (la_get_ok hr hi)).mp z', la_ok_lt (la_get_ok hr hi)⟩
    rw [hN i (by omega) z, la_V_y hs]
  refine pk_loop (σ := Unit) (fun f i _ => wX_hasNumber_2 post (nI s) (nI v) u.1 u.2.1 u.2.2.1 u.2.2.2.1 u.2.2.2.2.1 u.2.2.2.2.2.1 u.2.2.2.2.2.2.1 u.2.2.2.2.2.2.2.1 u.2.2.2.2.2.2.2.2.1 u.2.2.2.2.2.2.2.2.2.1 u.2.2.2.2.2.2.2.2.2.2.1 u.2.2.2.2.2.2.2.2.2.2.2.1 u.2.2.2.2.2.2.2.2.2.2.2.2.1 u.2.2.2.2.2.2.2.2.2.2.2.2.2.1 u.2.2.2.2.2.2.2.2.2.2.2.2.2.2.1 u.2.2.2.2.2.2.2.2.2.2.2.2.2.2.2.1 u.2.2.2.2.2.2.2.2.2.2.2.2.2.2.2.2.1 u.2.2.2.2.2.2.2.2.2.2.2.2.2.2.2.2.2.1 u.2.2.2.2.2.2.2.2.2.2.2.2.2.2.2.2.2.2.1 u.2.2.2.2.2.2.2.2.2.2.2.2.2.2.2.2.2.2.2.1 u.2.2.2.2.2.2.2.2.2.2.2.2.2.2.2.2.2.2.2.2.1 u.2.2.2.2.2.2.2.2.2.2.2.2.2.2.2.2.2.2.2.2.2.1 u.2.2.2.2.2.2.2.2.2.2.2.2.2.2.2.2.2.2.2.2.2.2.1 u.2.2.2.2.2.2.2.2.2.2.2.2.2.2.2.2.2.2.2.2.2.2.2.1 u.2.2.2.2.2.2.2.2.2.2.2.2.2.2.2.2.2.2.2.2.2.2.2.2.1 u.2.2.2.2.2.2.2.2.2.2.2.2.2.2.2.2.2.2.2.2.2.2.2.2.2.1 u.2.2.2.2.2.2.2.2.2.2.2.2.2.2.2.2.2.2.2.2.2.2.2.2.2.2.1 u.2.2.2.2.2.2.2.2.2.2.2.2.2.2.2.2.2.2.2.2.2.2.2.2.2.2.2 f (nI i)) (fun _ _ => True) c 0 () (by omega) trivial
    (fun f _ _ => ⟨pk_in s 60 (by omega), ?_⟩) (fun f i _ hi _ hw => ⟨pk_in s 60 (by omega), ?_⟩)
  · rw [nI_clamp (show s < 2 ^ 31 by omega), ha7, hlen]
    refine pk_le (X l).length c (fun z => H0 (fun y => ?_)) (fun z => ⟨pk_in (8 * s + c) 480 (by omega) (la_ix s c), ?_⟩)
    · obtain ⟨i, hi, e⟩ := la_mem.mp y
      exact of_decide_eq_false (c2 i (by omega)) e
    · have hc := of_decide_eq_true (c3 z)
      have hb : (SL s).getD c 0 = 1000 := by
        rw [hbl c z, hc]
        exact la_bl_n (by omega)
      rw [pk_cl (8 * s + c) (la_ix s c), ha8 c (by omega)]
      refine br_t (by rw [hb]; rfl) ⟨pk_in c 8 (by omega), ?_⟩
      rw [nI_clamp (show c < 2 ^ 31 by omega), (hnum c z hb).1]
      refine br_t (by rw [hc]; congr 1) (H1 (la_mem.mpr ⟨c, z, hc⟩))
  · have hi' : i < (X l).length := by omega
    have hc := of_decide_eq_false (c2 i hi)
    rw [nI_clamp (show s < 2 ^ 31 by omega), ha7, hlen]
    refine pk_le (X l).length i (fun z => absurd z (by omega)) (fun z => ⟨pk_in (8 * s + i) 480 (by omega) (la_ix s i), ?_⟩)
    rw [pk_cl (8 * s + i) (la_ix s i), ha8 i (by omega)]
    refine pk_eq ((SL s).getD i 0) 1000 (fun y => ⟨pk_in i 8 (by omega), ?_⟩) (fun y => nm_r (nI_1 i) (hw () trivial)) rfl rfl (hblt i hi')
    obtain ⟨n1, n2, n3⟩ := hnum i hi' y
    rw [nI_clamp (show i < 2 ^ 31 by omega), n1]
    exact pk_eq ((X l).getD i 0 - 1000) v (fun q => absurd q (by omega)) (fun _ => nm_r (nI_1 i) (hw () trivial))
theorem la_havingIn {post : Int32 → St1 → Prop} {u : St1} {M n k s v : Nat} {T : Nat → Nat} {X : Nat → List Nat} {S : Nat → Nat} {SL : Nat → List Nat} (hI : la_I1 M n k T X S SL u) (hs : s < k) (hv : v < 1000)
    (H : ∀ fr b17, post (nI (la_cn (fun j => decide (S j = s) && decide (v + 1000 ∈ X j)) n)) (u.1, u.2.1, u.2.2.1, u.2.2.2.1, u.2.2.2.2.1, u.2.2.2.2.2.1, u.2.2.2.2.2.2.1, fr, u.2.2.2.2.2.2.2.2.1, u.2.2.2.2.2.2.2.2.2.1, u.2.2.2.2.2.2.2.2.2.2.1, u.2.2.2.2.2.2.2.2.2.2.2.1, u.2.2.2.2.2.2.2.2.2.2.2.2.1, u.2.2.2.2.2.2.2.2.2.2.2.2.2.1, u.2.2.2.2.2.2.2.2.2.2.2.2.2.2.1, u.2.2.2.2.2.2.2.2.2.2.2.2.2.2.2.1, u.2.2.2.2.2.2.2.2.2.2.2.2.2.2.2.2.1, u.2.2.2.2.2.2.2.2.2.2.2.2.2.2.2.2.2.1, u.2.2.2.2.2.2.2.2.2.2.2.2.2.2.2.2.2.2.1, u.2.2.2.2.2.2.2.2.2.2.2.2.2.2.2.2.2.2.2.1, u.2.2.2.2.2.2.2.2.2.2.2.2.2.2.2.2.2.2.2.2.1, u.2.2.2.2.2.2.2.2.2.2.2.2.2.2.2.2.2.2.2.2.2.1, u.2.2.2.2.2.2.2.2.2.2.2.2.2.2.2.2.2.2.2.2.2.2.1, u.2.2.2.2.2.2.2.2.2.2.2.2.2.2.2.2.2.2.2.2.2.2.2.1, b17, u.2.2.2.2.2.2.2.2.2.2.2.2.2.2.2.2.2.2.2.2.2.2.2.2.2.1, u.2.2.2.2.2.2.2.2.2.2.2.2.2.2.2.2.2.2.2.2.2.2.2.2.2.2.1, u.2.2.2.2.2.2.2.2.2.2.2.2.2.2.2.2.2.2.2.2.2.2.2.2.2.2.2)) : wpX_havingIn post u (nI s) (nI v) := by
  have hI' := hI
  obtain ⟨⟨hA1, hA2, hA3, hA4, hA5⟩, hln, hsh, hB, hC, hD⟩ := hI'
  unfold wpX_havingIn
  refine la_clear (fun b17 g => ?_)
  refine pk_loop (σ := Nat × Int32 × (Nat → Int32)) (fun f i st => wX_havingIn_9 post (nI s) (nI v) f (nI st.1) (nI i) u.1 u.2.1 u.2.2.1 u.2.2.2.1 u.2.2.2.2.1 u.2.2.2.2.2.1 u.2.2.2.2.2.2.1 (st.2.1) u.2.2.2.2.2.2.2.2.1 u.2.2.2.2.2.2.2.2.2.1 u.2.2.2.2.2.2.2.2.2.2.1 u.2.2.2.2.2.2.2.2.2.2.2.1 u.2.2.2.2.2.2.2.2.2.2.2.2.1 u.2.2.2.2.2.2.2.2.2.2.2.2.2.1 u.2.2.2.2.2.2.2.2.2.2.2.2.2.2.1 u.2.2.2.2.2.2.2.2.2.2.2.2.2.2.2.1 u.2.2.2.2.2.2.2.2.2.2.2.2.2.2.2.2.1 u.2.2.2.2.2.2.2.2.2.2.2.2.2.2.2.2.2.1 u.2.2.2.2.2.2.2.2.2.2.2.2.2.2.2.2.2.2.1 u.2.2.2.2.2.2.2.2.2.2.2.2.2.2.2.2.2.2.2.1 u.2.2.2.2.2.2.2.2.2.2.2.2.2.2.2.2.2.2.2.2.1 u.2.2.2.2.2.2.2.2.2.2.2.2.2.2.2.2.2.2.2.2.2.1 u.2.2.2.2.2.2.2.2.2.2.2.2.2.2.2.2.2.2.2.2.2.2.1 u.2.2.2.2.2.2.2.2.2.2.2.2.2.2.2.2.2.2.2.2.2.2.2.1 (st.2.2) u.2.2.2.2.2.2.2.2.2.2.2.2.2.2.2.2.2.2.2.2.2.2.2.2.2.1 u.2.2.2.2.2.2.2.2.2.2.2.2.2.2.2.2.2.2.2.2.2.2.2.2.2.2.1 u.2.2.2.2.2.2.2.2.2.2.2.2.2.2.2.2.2.2.2.2.2.2.2.2.2.2.2) (fun i st => st.1 = la_cn (fun j => decide (S j = s) && decide (v + 1000 ∈ X j)) i ∧ la_N S X SL s i st.2.2) n 0 (0, u.2.2.2.2.2.2.2.1, b17) (by omega) ⟨rfl, la_N_0 (hA5 s hs) g⟩
    (fun f st h => ?_) (fun f i st hi h hw => ?_)
  · obtain ⟨c, fr, c17⟩ := st
    obtain ⟨h1, h2⟩ := h
    dsimp only at h1 h2 ⊢
    subst h1
    exact pk_le n n (fun _ => H fr c17) (fun z => absurd z (by omega)) hln
  · obtain ⟨c, fr, c17⟩ := st
    obtain ⟨h1, h2⟩ := h
    dsimp only at h1 h2 ⊢
    refine pk_le n i (fun z => absurd z (by omega)) (fun _ => ⟨pk_in i 60 (by omega), ?_⟩) hln
    have hsi := (hA3 i hi).2.2.1
    rw [nI_clamp (show i < 2 ^ 31 by omega), (hB.1 i hi).2]
    refine pk_eq (S i) s (fun z => ?_) (fun z => nm_r (nI_1 i) (hw (c, fr, c17) ⟨?_, la_N_skip h2 z⟩))
    · refine la_addLine (u := (u.1, u.2.1, u.2.2.1, u.2.2.2.1, u.2.2.2.2.1, u.2.2.2.2.2.1, u.2.2.2.2.2.2.1, fr, u.2.2.2.2.2.2.2.2.1, u.2.2.2.2.2.2.2.2.2.1, u.2.2.2.2.2.2.2.2.2.2.1, u.2.2.2.2.2.2.2.2.2.2.2.1, u.2.2.2.2.2.2.2.2.2.2.2.2.1, u.2.2.2.2.2.2.2.2.2.2.2.2.2.1, u.2.2.2.2.2.2.2.2.2.2.2.2.2.2.1, u.2.2.2.2.2.2.2.2.2.2.2.2.2.2.2.1, u.2.2.2.2.2.2.2.2.2.2.2.2.2.2.2.2.1, u.2.2.2.2.2.2.2.2.2.2.2.2.2.2.2.2.2.1, u.2.2.2.2.2.2.2.2.2.2.2.2.2.2.2.2.2.2.1, u.2.2.2.2.2.2.2.2.2.2.2.2.2.2.2.2.2.2.2.1, u.2.2.2.2.2.2.2.2.2.2.2.2.2.2.2.2.2.2.2.2.1, u.2.2.2.2.2.2.2.2.2.2.2.2.2.2.2.2.2.2.2.2.2.1, u.2.2.2.2.2.2.2.2.2.2.2.2.2.2.2.2.2.2.2.2.2.2.1, u.2.2.2.2.2.2.2.2.2.2.2.2.2.2.2.2.2.2.2.2.2.2.2.1, c17, u.2.2.2.2.2.2.2.2.2.2.2.2.2.2.2.2.2.2.2.2.2.2.2.2.2.1, u.2.2.2.2.2.2.2.2.2.2.2.2.2.2.2.2.2.2.2.2.2.2.2.2.2.2.1, u.2.2.2.2.2.2.2.2.2.2.2.2.2.2.2.2.2.2.2.2.2.2.2.2.2.2.2)) (la_I1_q (u := u) rfl hI) hi z h2 (fun fr' d17 g' => ?_)
      refine la_hasNumber (u := (u.1, u.2.1, u.2.2.1, u.2.2.2.1, u.2.2.2.2.1, u.2.2.2.2.2.1, u.2.2.2.2.2.2.1, fr', u.2.2.2.2.2.2.2.2.1, u.2.2.2.2.2.2.2.2.2.1, u.2.2.2.2.2.2.2.2.2.2.1, u.2.2.2.2.2.2.2.2.2.2.2.1, u.2.2.2.2.2.2.2.2.2.2.2.2.1, u.2.2.2.2.2.2.2.2.2.2.2.2.2.1, u.2.2.2.2.2.2.2.2.2.2.2.2.2.2.1, u.2.2.2.2.2.2.2.2.2.2.2.2.2.2.2.1, u.2.2.2.2.2.2.2.2.2.2.2.2.2.2.2.2.1, u.2.2.2.2.2.2.2.2.2.2.2.2.2.2.2.2.2.1, u.2.2.2.2.2.2.2.2.2.2.2.2.2.2.2.2.2.2.1, u.2.2.2.2.2.2.2.2.2.2.2.2.2.2.2.2.2.2.2.1, u.2.2.2.2.2.2.2.2.2.2.2.2.2.2.2.2.2.2.2.2.1, u.2.2.2.2.2.2.2.2.2.2.2.2.2.2.2.2.2.2.2.2.2.1, u.2.2.2.2.2.2.2.2.2.2.2.2.2.2.2.2.2.2.2.2.2.2.1, u.2.2.2.2.2.2.2.2.2.2.2.2.2.2.2.2.2.2.2.2.2.2.2.1, d17, u.2.2.2.2.2.2.2.2.2.2.2.2.2.2.2.2.2.2.2.2.2.2.2.2.2.1, u.2.2.2.2.2.2.2.2.2.2.2.2.2.2.2.2.2.2.2.2.2.2.2.2.2.2.1, u.2.2.2.2.2.2.2.2.2.2.2.2.2.2.2.2.2.2.2.2.2.2.2.2.2.2.2)) (la_I1_q (u := u) rfl hI) hi z hv g' (fun y => br_f (by decide) (nm_r (nI_1 c) (nm_r (nI_1 i) (hw (c + 1, fr', d17) ⟨?_, g'⟩)))) (fun y => br_t rfl (nm_r (Int32.add_zero _) (nm_r (nI_1 i) (hw (c, fr', d17) ⟨?_, g'⟩))))
      · dsimp only
        rw [la_cn_succ, ← h1, if_pos]
        simp [z, y]
      · dsimp only
        rw [la_cn_succ, ← h1, if_neg]
        · rfl
        · simp [y]
    · dsimp only
      rw [la_cn_succ, ← h1, if_neg]
      · rfl
      · simp [z]
theorem la_havingQ {post : Int32 → St1 → Prop} {u : St1} {n k x : Nat} {T : Nat → Nat} {X : Nat → List Nat} {S : Nat → Nat} {SL : Nat → List Nat} (hI : la_I n k T X S SL u) (hx : la_ok x)
    (H : ∀ u', la_q u' = la_q u → post (nI (la_cn (fun j => decide (x ∈ X j)) n)) u') : wpX_having post u (nI x) := by
  have hI' := hI
  obtain ⟨⟨⟨hA1, hA2, hA3, hA4, hA5⟩, hln, hsh, hB, hC, hD⟩, hO⟩ := hI'
  unfold wpX_having
  refine la_isItem hx (br_f (by decide) (la_isNumber hx (fun z => br_t rfl ⟨pk_in x 24 z, ?_⟩) (fun z z2 => br_f (by decide) ?_)))
  · rw [nI_clamp (show x < 2 ^ 31 by omega)]
    refine la_ones ?_
    rw [la_cnt hA1 (hB.2.2 x z)]
    exact H _ rfl
  · have hx0 : nI x - 1000 = nI (x - 1000) := pk_sub z
    have hx1 : x - 1000 + 1000 = x := by omega
    have hp := la_part S (fun j => decide (x ∈ X j)) (fun j hj => (hA3 j hj).2.2.1)
    refine pk_loop (σ := Nat × Int32 × (Nat → Int32)) (fun f i st => wX_having_30 post (nI x) f (nI st.1) (nI i) u.1 u.2.1 u.2.2.1 u.2.2.2.1 u.2.2.2.2.1 u.2.2.2.2.2.1 u.2.2.2.2.2.2.1 (st.2.1) u.2.2.2.2.2.2.2.2.1 u.2.2.2.2.2.2.2.2.2.1 u.2.2.2.2.2.2.2.2.2.2.1 u.2.2.2.2.2.2.2.2.2.2.2.1 u.2.2.2.2.2.2.2.2.2.2.2.2.1 u.2.2.2.2.2.2.2.2.2.2.2.2.2.1 u.2.2.2.2.2.2.2.2.2.2.2.2.2.2.1 u.2.2.2.2.2.2.2.2.2.2.2.2.2.2.2.1 u.2.2.2.2.2.2.2.2.2.2.2.2.2.2.2.2.1 u.2.2.2.2.2.2.2.2.2.2.2.2.2.2.2.2.2.1 u.2.2.2.2.2.2.2.2.2.2.2.2.2.2.2.2.2.2.1 u.2.2.2.2.2.2.2.2.2.2.2.2.2.2.2.2.2.2.2.1 u.2.2.2.2.2.2.2.2.2.2.2.2.2.2.2.2.2.2.2.2.1 u.2.2.2.2.2.2.2.2.2.2.2.2.2.2.2.2.2.2.2.2.2.1 u.2.2.2.2.2.2.2.2.2.2.2.2.2.2.2.2.2.2.2.2.2.2.1 u.2.2.2.2.2.2.2.2.2.2.2.2.2.2.2.2.2.2.2.2.2.2.2.1 (st.2.2) u.2.2.2.2.2.2.2.2.2.2.2.2.2.2.2.2.2.2.2.2.2.2.2.2.2.1 u.2.2.2.2.2.2.2.2.2.2.2.2.2.2.2.2.2.2.2.2.2.2.2.2.2.2.1 u.2.2.2.2.2.2.2.2.2.2.2.2.2.2.2.2.2.2.2.2.2.2.2.2.2.2.2) (fun i st => st.1 = la_sm (fun s => la_cn (fun j => decide (S j = s) && decide (x ∈ X j)) n) i) k 0 (0, u.2.2.2.2.2.2.2.1, u.2.2.2.2.2.2.2.2.2.2.2.2.2.2.2.2.2.2.2.2.2.2.2.2.1) (by omega) rfl
      (fun f st h => ?_) (fun f i st hi h hw => ?_)
    · obtain ⟨c, fr, c17⟩ := st
      dsimp only at h ⊢
      rw [hp] at h
      subst h
      exact pk_le k k (fun _ => H _ rfl) (fun z => absurd z (by omega)) hsh
    · obtain ⟨c, fr, c17⟩ := st
      dsimp only at h ⊢
      refine pk_le k i (fun z => absurd z (by omega)) (fun _ => ?_) hsh
      rw [hx0]
      refine la_havingIn (u := (u.1, u.2.1, u.2.2.1, u.2.2.2.1, u.2.2.2.2.1, u.2.2.2.2.2.1, u.2.2.2.2.2.2.1, fr, u.2.2.2.2.2.2.2.2.1, u.2.2.2.2.2.2.2.2.2.1, u.2.2.2.2.2.2.2.2.2.2.1, u.2.2.2.2.2.2.2.2.2.2.2.1, u.2.2.2.2.2.2.2.2.2.2.2.2.1, u.2.2.2.2.2.2.2.2.2.2.2.2.2.1, u.2.2.2.2.2.2.2.2.2.2.2.2.2.2.1, u.2.2.2.2.2.2.2.2.2.2.2.2.2.2.2.1, u.2.2.2.2.2.2.2.2.2.2.2.2.2.2.2.2.1, u.2.2.2.2.2.2.2.2.2.2.2.2.2.2.2.2.2.1, u.2.2.2.2.2.2.2.2.2.2.2.2.2.2.2.2.2.2.1, u.2.2.2.2.2.2.2.2.2.2.2.2.2.2.2.2.2.2.2.1, u.2.2.2.2.2.2.2.2.2.2.2.2.2.2.2.2.2.2.2.2.1, u.2.2.2.2.2.2.2.2.2.2.2.2.2.2.2.2.2.2.2.2.2.1, u.2.2.2.2.2.2.2.2.2.2.2.2.2.2.2.2.2.2.2.2.2.2.1, u.2.2.2.2.2.2.2.2.2.2.2.2.2.2.2.2.2.2.2.2.2.2.2.1, c17, u.2.2.2.2.2.2.2.2.2.2.2.2.2.2.2.2.2.2.2.2.2.2.2.2.2.1, u.2.2.2.2.2.2.2.2.2.2.2.2.2.2.2.2.2.2.2.2.2.2.2.2.2.2.1, u.2.2.2.2.2.2.2.2.2.2.2.2.2.2.2.2.2.2.2.2.2.2.2.2.2.2.2)) (la_I1_q (u := u) rfl hI.1) hi (by omega) (fun fr' d17 => ?_)
      rw [hx1]
      refine nm_r (nI_add _ _) (nm_r (nI_1 i) (hw (_, fr', d17) ?_))
      dsimp only
      rw [h]
      rfl
theorem la_rankOf {post : Int32 → Prop} {u : St1} {n k s : Nat} {T : Nat → Nat} {X : Nat → List Nat} {S : Nat → Nat} {SL : Nat → List Nat} (hI : la_I n k T X S SL u) (hs : s < k) (H : post (nI (la_r (la_c S n) k s))) : wpX_rankOf post u (nI s) := by
  have hI' := hI
  obtain ⟨⟨⟨hA1, hA2, hA3, hA4, hA5⟩, hln, hsh, hB, hC, hD⟩, hO⟩ := hI'
  have hcb : ∀ t, la_c S n t < 2 ^ 31 := fun t => by
    have := la_c_le S n t
    omega
  unfold wpX_rankOf
  refine ⟨pk_in s 60 (by omega), ?_⟩
  rw [nI_clamp (show s < 2 ^ 31 by omega)]
  refine la_ones ?_
  rw [la_cnt hA1 (hB.2.1 s hs).2.2]
  refine pk_loop (σ := Nat) (fun f t m => wX_rankOf_15 post (nI s) (nI (la_c S n s)) u.1 u.2.1 u.2.2.1 u.2.2.2.1 u.2.2.2.2.1 u.2.2.2.2.2.1 u.2.2.2.2.2.2.1 u.2.2.2.2.2.2.2.1 u.2.2.2.2.2.2.2.2.1 u.2.2.2.2.2.2.2.2.2.1 u.2.2.2.2.2.2.2.2.2.2.1 u.2.2.2.2.2.2.2.2.2.2.2.1 u.2.2.2.2.2.2.2.2.2.2.2.2.1 u.2.2.2.2.2.2.2.2.2.2.2.2.2.1 u.2.2.2.2.2.2.2.2.2.2.2.2.2.2.1 u.2.2.2.2.2.2.2.2.2.2.2.2.2.2.2.1 u.2.2.2.2.2.2.2.2.2.2.2.2.2.2.2.2.1 u.2.2.2.2.2.2.2.2.2.2.2.2.2.2.2.2.2.1 u.2.2.2.2.2.2.2.2.2.2.2.2.2.2.2.2.2.2.1 u.2.2.2.2.2.2.2.2.2.2.2.2.2.2.2.2.2.2.2.1 u.2.2.2.2.2.2.2.2.2.2.2.2.2.2.2.2.2.2.2.2.1 u.2.2.2.2.2.2.2.2.2.2.2.2.2.2.2.2.2.2.2.2.2.1 u.2.2.2.2.2.2.2.2.2.2.2.2.2.2.2.2.2.2.2.2.2.2.1 u.2.2.2.2.2.2.2.2.2.2.2.2.2.2.2.2.2.2.2.2.2.2.2.1 u.2.2.2.2.2.2.2.2.2.2.2.2.2.2.2.2.2.2.2.2.2.2.2.2.1 u.2.2.2.2.2.2.2.2.2.2.2.2.2.2.2.2.2.2.2.2.2.2.2.2.2.1 u.2.2.2.2.2.2.2.2.2.2.2.2.2.2.2.2.2.2.2.2.2.2.2.2.2.2.1 u.2.2.2.2.2.2.2.2.2.2.2.2.2.2.2.2.2.2.2.2.2.2.2.2.2.2.2 f (nI m) (nI t)) (fun t m => m = la_r (la_c S n) t s) k 0 0 (by omega) rfl
    (fun f m h => ?_) (fun f t m ht h hw => ?_)
  · rw [h]
    exact pk_le k k (fun _ => H) (fun z => absurd z (by omega)) hsh
  · refine pk_le k t (fun z => absurd z (by omega)) (fun _ => ⟨pk_in t 60 (by omega), ?_⟩) hsh
    rw [nI_clamp (show t < 2 ^ 31 by omega)]
    refine la_ones ?_
    rw [la_cnt hA1 (hB.2.1 t ht).2.2]
    have hy : la_b (la_c S n) t s = true → m + 1 = la_r (la_c S n) (t + 1) s := fun e => by
      show _ = la_cn (fun t => la_b (la_c S n) t s) (t + 1)
      rw [la_cn_succ, if_pos e, h]
      rfl
    have hn : ¬ la_b (la_c S n) t s = true → m = la_r (la_c S n) (t + 1) s := fun e => by
      show _ = la_cn (fun t => la_b (la_c S n) t s) (t + 1)
      rw [la_cn_succ, if_neg e, h]
      rfl
    refine pk_lt (la_c S n s) (la_c S n t) (fun z => nm_r (nI_1 m) (nm_r (nI_1 t) (hw _ (hy (la_b_iff.mpr (by omega)))))) (fun z => ?_) rfl rfl (hcb s) (hcb t)
    refine pk_eq (la_c S n t) (la_c S n s) (fun y => ?_) (fun y => nm_r (Int32.add_zero _) (nm_r (nI_1 t) (hw _ (hn (fun e => by have := la_b_iff.mp e; omega))))) rfl rfl (hcb t) (hcb s)
    exact pk_le s t (fun x => nm_r (Int32.add_zero _) (nm_r (nI_1 t) (hw _ (hn (fun e => by have := la_b_iff.mp e; omega))))) (fun x => nm_r (nI_1 m) (nm_r (nI_1 t) (hw _ (hy (la_b_iff.mpr (by omega))))))
theorem la_largestQ {post : Int32 → Prop} {u : St1} {n k j : Nat} {T : Nat → Nat} {X : Nat → List Nat} {S : Nat → Nat} {SL : Nat → List Nat} (hI : la_I n k T X S SL u) (hj : j < 2 ^ 31)
    (H1 : ∀ s f, s < k → la_r (la_c S n) k s = j → f < n → la_fst S s f → post (nI f)) (H0 : (∀ s, s < k → la_r (la_c S n) k s ≠ j) → post (-2)) : wpX_largest post u (nI j) := by
  have hI' := hI
  obtain ⟨⟨⟨hA1, hA2, hA3, hA4, hA5⟩, hln, hsh, hB, hC, hD⟩, hO⟩ := hI'
  obtain ⟨c, c1, c2, c3⟩ := la_find (fun s => decide (la_r (la_c S n) k s = j)) k
  unfold wpX_largest
  refine pk_loop (σ := Unit) (fun f i _ => wX_largest_2 post (nI j) u.1 u.2.1 u.2.2.1 u.2.2.2.1 u.2.2.2.2.1 u.2.2.2.2.2.1 u.2.2.2.2.2.2.1 u.2.2.2.2.2.2.2.1 u.2.2.2.2.2.2.2.2.1 u.2.2.2.2.2.2.2.2.2.1 u.2.2.2.2.2.2.2.2.2.2.1 u.2.2.2.2.2.2.2.2.2.2.2.1 u.2.2.2.2.2.2.2.2.2.2.2.2.1 u.2.2.2.2.2.2.2.2.2.2.2.2.2.1 u.2.2.2.2.2.2.2.2.2.2.2.2.2.2.1 u.2.2.2.2.2.2.2.2.2.2.2.2.2.2.2.1 u.2.2.2.2.2.2.2.2.2.2.2.2.2.2.2.2.1 u.2.2.2.2.2.2.2.2.2.2.2.2.2.2.2.2.2.1 u.2.2.2.2.2.2.2.2.2.2.2.2.2.2.2.2.2.2.1 u.2.2.2.2.2.2.2.2.2.2.2.2.2.2.2.2.2.2.2.1 u.2.2.2.2.2.2.2.2.2.2.2.2.2.2.2.2.2.2.2.2.1 u.2.2.2.2.2.2.2.2.2.2.2.2.2.2.2.2.2.2.2.2.2.1 u.2.2.2.2.2.2.2.2.2.2.2.2.2.2.2.2.2.2.2.2.2.2.1 u.2.2.2.2.2.2.2.2.2.2.2.2.2.2.2.2.2.2.2.2.2.2.2.1 u.2.2.2.2.2.2.2.2.2.2.2.2.2.2.2.2.2.2.2.2.2.2.2.2.1 u.2.2.2.2.2.2.2.2.2.2.2.2.2.2.2.2.2.2.2.2.2.2.2.2.2.1 u.2.2.2.2.2.2.2.2.2.2.2.2.2.2.2.2.2.2.2.2.2.2.2.2.2.2.1 u.2.2.2.2.2.2.2.2.2.2.2.2.2.2.2.2.2.2.2.2.2.2.2.2.2.2.2 f (nI i)) (fun _ _ => True) c 0 () (by omega) trivial
    (fun f _ _ => ?_) (fun f i _ hi _ hw => ?_)
  · refine pk_le k c (fun z => H0 (fun s hs e => of_decide_eq_false (c2 s (by omega)) e)) (fun z => ?_) hsh
    have hc := of_decide_eq_true (c3 z)
    refine la_rankOf hI z (br_t (by rw [hc]) ?_)
    exact la_firstOf hI z (fun f hf hfst => H1 c f z hc hf hfst)
  · refine pk_le k i (fun z => absurd z (by omega)) (fun z => ?_) hsh
    have hc := of_decide_eq_false (c2 i hi)
    refine la_rankOf hI z ?_
    have := la_r_k (c := la_c S n) z
    exact pk_eq (la_r (la_c S n) k i) j (fun y => absurd y hc) (fun _ => nm_r (nI_1 i) (hw () trivial))
end
section
/-! columns -/
theorem la_m1 {a : Nat} (h : 0 < a) : nI a - 1 = nI (a - 1) := pk_sub (b := 1) h
def la_v (X : Nat → List Nat) (i j : Nat) : Nat := (X j).getD i 0 - 1000
def la_min (S : Nat → Nat) (v : Nat → Nat) (s l lo : Nat) : Prop := (∃ j, j < l ∧ S j = s ∧ v j = lo) ∧ ∀ j, j < l → S j = s → lo ≤ v j
def la_max (S : Nat → Nat) (v : Nat → Nat) (s l hi : Nat) : Prop := (∃ j, j < l ∧ S j = s ∧ v j = hi) ∧ ∀ j, j < l → S j = s → v j ≤ hi
theorem la_min_u {S v : Nat → Nat} {s l a b : Nat} (h : la_min S v s l a) (h' : la_min S v s l b) : a = b := by
  obtain ⟨⟨j, j1, j2, j3⟩, h2⟩ := h
  obtain ⟨⟨m, m1, m2, m3⟩, h4⟩ := h'
  have := h2 m m1 m2
  have := h4 j j1 j2
  omega
theorem la_max_u {S v : Nat → Nat} {s l a b : Nat} (h : la_max S v s l a) (h' : la_max S v s l b) : a = b := by
  obtain ⟨⟨j, j1, j2, j3⟩, h2⟩ := h
  obtain ⟨⟨m, m1, m2, m3⟩, h4⟩ := h'
  have := h2 m m1 m2
  have := h4 j j1 j2
  omega
theorem la_min_n {S v : Nat → Nat} {s l lo : Nat} (h : la_min S v s l lo) (e : S l ≠ s) : la_min S v s (l + 1) lo := by
  obtain ⟨⟨j, j1, j2, j3⟩, h2⟩ := h
  refine ⟨⟨j, by omega, j2, j3⟩, fun m hm em => ?_⟩
  by_cases z : m = l
  · rw [z] at em
    exact absurd em e
  · exact h2 m (by omega) em
theorem la_max_n {S v : Nat → Nat} {s l hi : Nat} (h : la_max S v s l hi) (e : S l ≠ s) : la_max S v s (l + 1) hi := by
  obtain ⟨⟨j, j1, j2, j3⟩, h2⟩ := h
  refine ⟨⟨j, by omega, j2, j3⟩, fun m hm em => ?_⟩
  by_cases z : m = l
  · rw [z] at em
    exact absurd em e
  · exact h2 m (by omega) em
theorem la_min_1 {S v : Nat → Nat} {s l lo : Nat} (h : la_min S v s l lo) (e : lo ≤ v l) : la_min S v s (l + 1) lo := by
  obtain ⟨⟨j, j1, j2, j3⟩, h2⟩ := h
  refine ⟨⟨j, by omega, j2, j3⟩, fun m hm em => ?_⟩
  by_cases z : m = l
  · rw [z]
    exact e
  · exact h2 m (by omega) em
theorem la_min_2 {S v : Nat → Nat} {s l lo : Nat} (h : la_min S v s l lo) (e : v l < lo) (es : S l = s) : la_min S v s (l + 1) (v l) := by
  obtain ⟨⟨j, j1, j2, j3⟩, h2⟩ := h
  refine ⟨⟨l, by omega, es, rfl⟩, fun m hm em => ?_⟩
  by_cases z : m = l
  · rw [z]
    exact Nat.le_refl _
  · have := h2 m (by omega) em
    omega
theorem la_max_1 {S v : Nat → Nat} {s l hi : Nat} (h : la_max S v s l hi) (e : v l ≤ hi) : la_max S v s (l + 1) hi := by
  obtain ⟨⟨j, j1, j2, j3⟩, h2⟩ := h
  refine ⟨⟨j, by omega, j2, j3⟩, fun m hm em => ?_⟩
  by_cases z : m = l
  · rw [z]
    exact e
  · exact h2 m (by omega) em
theorem la_max_2 {S v : Nat → Nat} {s l hi : Nat} (h : la_max S v s l hi) (e : hi < v l) (es : S l = s) : la_max S v s (l + 1) (v l) := by
  obtain ⟨⟨j, j1, j2, j3⟩, h2⟩ := h
  refine ⟨⟨l, by omega, es, rfl⟩, fun m hm em => ?_⟩
  by_cases z : m = l
  · rw [z]
    exact Nat.le_refl _
  · have := h2 m (by omega) em
    omega
theorem la_min_0 {S v : Nat → Nat} {s l : Nat} (h : ∀ j, j < l → S j ≠ s) (es : S l = s) : la_min S v s (l + 1) (v l) := by
  refine ⟨⟨l, by omega, es, rfl⟩, fun m hm em => ?_⟩
  by_cases z : m = l
  · rw [z]
    exact Nat.le_refl _
  · exact absurd em (h m (by omega))
theorem la_max_0 {S v : Nat → Nat} {s l : Nat} (h : ∀ j, j < l → S j ≠ s) (es : S l = s) : la_max S v s (l + 1) (v l) := by
  refine ⟨⟨l, by omega, es, rfl⟩, fun m hm em => ?_⟩
  by_cases z : m = l
  · rw [z]
    exact Nat.le_refl _
  · exact absurd em (h m (by omega))
/-- the sum of a column -/
def la_su (S v : Nat → Nat) (s l : Nat) : Nat := la_sm (fun j => if S j = s then v j else 0) l
def la_mm (S v : Nat → Nat) (s l : Nat) (x4 x5 : Int32) : Prop :=
  ((∀ j, j < l → S j ≠ s) ∧ x4 = 1000 ∧ x5 = -1) ∨ (∃ lo hi, x4 = nI lo ∧ x5 = nI hi ∧ la_min S v s l lo ∧ la_max S v s l hi)
theorem la_totalIn {post : Int32 → St1 → Prop} {u : St1} {n k s i w : Nat} {T : Nat → Nat} {X : Nat → List Nat} {S : Nat → Nat} {SL : Nat → List Nat} (hI : la_I n k T X S SL u) (hs : s < k) (hi : i < (SL s).length) (hb : (SL s).getD i 0 = 1000) (hw : w < 3)
    (H : ∀ u' lo hi, la_q u' = la_q u → la_min S (la_v X i) s n lo → la_max S (la_v X i) s n hi → post (if w = 0 then nI lo else if w = 1 then nI hi else nI (la_su S (la_v X i) s n)) u') : wpX_totalIn post u (nI s) (nI i) (nI w) := by
  have hI' := hI
  obtain ⟨⟨⟨hA1, hA2, hA3, hA4, hA5⟩, hln, hsh, hB, hC, hD⟩, hO⟩ := hI'
  have h8 := hA5 s hs
  have hvlt : ∀ j, j < n → la_v X i j < 1000 := fun j hj => by
    have := la_getD_lt (hA3 j hj).1.2.2 i
    unfold la_v
    omega
  unfold wpX_totalIn
  refine la_clear (fun b17 g => ?_)
  refine pk_loop (σ := Int32 × Int32 × Int32 × Int32 × (Nat → Int32)) (fun f l st => wX_totalIn_18 post (nI s) (nI i) (nI w) f st.1 st.2.1 st.2.2.1 (nI l) u.1 u.2.1 u.2.2.1 u.2.2.2.1 u.2.2.2.2.1 u.2.2.2.2.2.1 u.2.2.2.2.2.2.1 (st.2.2.2.1) u.2.2.2.2.2.2.2.2.1 u.2.2.2.2.2.2.2.2.2.1 u.2.2.2.2.2.2.2.2.2.2.1 u.2.2.2.2.2.2.2.2.2.2.2.1 u.2.2.2.2.2.2.2.2.2.2.2.2.1 u.2.2.2.2.2.2.2.2.2.2.2.2.2.1 u.2.2.2.2.2.2.2.2.2.2.2.2.2.2.1 u.2.2.2.2.2.2.2.2.2.2.2.2.2.2.2.1 u.2.2.2.2.2.2.2.2.2.2.2.2.2.2.2.2.1 u.2.2.2.2.2.2.2.2.2.2.2.2.2.2.2.2.2.1 u.2.2.2.2.2.2.2.2.2.2.2.2.2.2.2.2.2.2.1 u.2.2.2.2.2.2.2.2.2.2.2.2.2.2.2.2.2.2.2.1 u.2.2.2.2.2.2.2.2.2.2.2.2.2.2.2.2.2.2.2.2.1 u.2.2.2.2.2.2.2.2.2.2.2.2.2.2.2.2.2.2.2.2.2.1 u.2.2.2.2.2.2.2.2.2.2.2.2.2.2.2.2.2.2.2.2.2.2.1 u.2.2.2.2.2.2.2.2.2.2.2.2.2.2.2.2.2.2.2.2.2.2.2.1 (st.2.2.2.2) u.2.2.2.2.2.2.2.2.2.2.2.2.2.2.2.2.2.2.2.2.2.2.2.2.2.1 u.2.2.2.2.2.2.2.2.2.2.2.2.2.2.2.2.2.2.2.2.2.2.2.2.2.2.1 u.2.2.2.2.2.2.2.2.2.2.2.2.2.2.2.2.2.2.2.2.2.2.2.2.2.2.2)
    (fun l st => la_mm S (la_v X i) s l st.1 st.2.1 ∧ st.2.2.1 = nI (la_su S (la_v X i) s l) ∧ la_N S X SL s l st.2.2.2.2) n 0 (1000, -1, 0, u.2.2.2.2.2.2.2.1, b17) (by omega) ⟨Or.inl ⟨fun j h => absurd h (by omega), rfl, rfl⟩, rfl, la_N_0 h8 g⟩
    (fun f st h => ?_) (fun f l st hl h hk => ?_)
  · obtain ⟨x4, x5, x6, fr, c17⟩ := st
    obtain ⟨h1, h2, h3⟩ := h
    dsimp only at h1 h2 h3 ⊢
    rcases h1 with ⟨z, _⟩ | ⟨lo, hi, e1, e2, m1, m2⟩
    · obtain ⟨l, l1, l2⟩ := hO.2.1 s hs
      exact absurd l2 (z l l1)
    · subst e1 e2 h2
      have HH := fun u' e => H u' lo hi e m1 m2
      refine pk_le n n (fun _ => pk_eq w 0 (fun z => ?_) (fun z => pk_eq w 1 (fun y => ?_) (fun y => ?_))) (fun z => absurd z (by omega)) hln
      · rw [if_pos z] at HH
        exact HH _ rfl
      · rw [if_neg z, if_pos y] at HH
        exact HH _ rfl
      · rw [if_neg z, if_neg y] at HH
        exact HH _ rfl
  · obtain ⟨x4, x5, x6, fr, c17⟩ := st
    obtain ⟨h1, h2, h3⟩ := h
    dsimp only at h1 h2 h3 ⊢
    refine pk_le n l (fun z => absurd z (by omega)) (fun _ => ⟨pk_in l 60 (by omega), ?_⟩) hln
    have hsl := (hA3 l hl).2.2.1
    rw [nI_clamp (show l < 2 ^ 31 by omega), (hB.1 l hl).2]
    refine pk_eq (S l) s (fun z => ?_) (fun z => nm_r (nI_1 l) (hk (x4, x5, x6, fr, c17) ⟨?_, ?_, la_N_skip h3 z⟩))
    · refine la_addLine (u := (u.1, u.2.1, u.2.2.1, u.2.2.2.1, u.2.2.2.2.1, u.2.2.2.2.2.1, u.2.2.2.2.2.2.1, fr, u.2.2.2.2.2.2.2.2.1, u.2.2.2.2.2.2.2.2.2.1, u.2.2.2.2.2.2.2.2.2.2.1, u.2.2.2.2.2.2.2.2.2.2.2.1, u.2.2.2.2.2.2.2.2.2.2.2.2.1, u.2.2.2.2.2.2.2.2.2.2.2.2.2.1, u.2.2.2.2.2.2.2.2.2.2.2.2.2.2.1, u.2.2.2.2.2.2.2.2.2.2.2.2.2.2.2.1, u.2.2.2.2.2.2.2.2.2.2.2.2.2.2.2.2.1, u.2.2.2.2.2.2.2.2.2.2.2.2.2.2.2.2.2.1, u.2.2.2.2.2.2.2.2.2.2.2.2.2.2.2.2.2.2.1, u.2.2.2.2.2.2.2.2.2.2.2.2.2.2.2.2.2.2.2.1, u.2.2.2.2.2.2.2.2.2.2.2.2.2.2.2.2.2.2.2.2.1, u.2.2.2.2.2.2.2.2.2.2.2.2.2.2.2.2.2.2.2.2.2.1, u.2.2.2.2.2.2.2.2.2.2.2.2.2.2.2.2.2.2.2.2.2.2.1, u.2.2.2.2.2.2.2.2.2.2.2.2.2.2.2.2.2.2.2.2.2.2.2.1, c17, u.2.2.2.2.2.2.2.2.2.2.2.2.2.2.2.2.2.2.2.2.2.2.2.2.2.1, u.2.2.2.2.2.2.2.2.2.2.2.2.2.2.2.2.2.2.2.2.2.2.2.2.2.2.1, u.2.2.2.2.2.2.2.2.2.2.2.2.2.2.2.2.2.2.2.2.2.2.2.2.2.2.2)) (la_I1_q (u := u) rfl hI.1) hl z h3 (fun fr' d17 g' => ⟨pk_in i 8 (by omega), ?_⟩)
      dsimp only
      have hv : d17 i = nI (la_v X i l) := by
        rw [g' i hi hb, la_V_y z]
        rfl
      have hvl := hvlt l hl
      have f91 : ∀ y4 y5, la_mm S (la_v X i) s (l + 1) y4 y5 → wX_totalIn_91 post (wX_totalIn_18 post (nI s) (nI i) (nI w) f) (nI s) (nI i) (nI w) y4 x6 (nI l) y5 u.1 u.2.1 u.2.2.1 u.2.2.2.1 u.2.2.2.2.1 u.2.2.2.2.2.1 u.2.2.2.2.2.2.1 (fr') u.2.2.2.2.2.2.2.2.1 u.2.2.2.2.2.2.2.2.2.1 u.2.2.2.2.2.2.2.2.2.2.1 u.2.2.2.2.2.2.2.2.2.2.2.1 u.2.2.2.2.2.2.2.2.2.2.2.2.1 u.2.2.2.2.2.2.2.2.2.2.2.2.2.1 u.2.2.2.2.2.2.2.2.2.2.2.2.2.2.1 u.2.2.2.2.2.2.2.2.2.2.2.2.2.2.2.1 u.2.2.2.2.2.2.2.2.2.2.2.2.2.2.2.2.1 u.2.2.2.2.2.2.2.2.2.2.2.2.2.2.2.2.2.1 u.2.2.2.2.2.2.2.2.2.2.2.2.2.2.2.2.2.2.1 u.2.2.2.2.2.2.2.2.2.2.2.2.2.2.2.2.2.2.2.1 u.2.2.2.2.2.2.2.2.2.2.2.2.2.2.2.2.2.2.2.2.1 u.2.2.2.2.2.2.2.2.2.2.2.2.2.2.2.2.2.2.2.2.2.1 u.2.2.2.2.2.2.2.2.2.2.2.2.2.2.2.2.2.2.2.2.2.2.1 u.2.2.2.2.2.2.2.2.2.2.2.2.2.2.2.2.2.2.2.2.2.2.2.1 (d17) u.2.2.2.2.2.2.2.2.2.2.2.2.2.2.2.2.2.2.2.2.2.2.2.2.2.1 u.2.2.2.2.2.2.2.2.2.2.2.2.2.2.2.2.2.2.2.2.2.2.2.2.2.2.1 u.2.2.2.2.2.2.2.2.2.2.2.2.2.2.2.2.2.2.2.2.2.2.2.2.2.2.2 := by
        intro y4 y5 hm
        unfold wX_totalIn_91
        refine ⟨pk_in i 8 (by omega), ?_⟩
        rw [nI_clamp (show i < 2 ^ 31 by omega), hv, h2]
        refine nm_r (nI_add _ _) (nm_r (nI_1 l) (hk (y4, y5, _, fr', d17) ⟨hm, ?_, g'⟩))
        dsimp only
        refine congrArg nI ?_
        show _ = la_su S (la_v X i) s l + (if S l = s then la_v X i l else 0)
        rw [if_pos z]
      rw [nI_clamp (show i < 2 ^ 31 by omega), hv]
      rcases h1 with ⟨z0, e1, e2⟩ | ⟨lo, hi, e1, e2, m1, m2⟩
      · subst e1 e2
        refine pk_le 1000 (la_v X i l) (fun y => absurd y (by omega)) (fun _ => ⟨pk_in i 8 (by omega), ?_⟩)
        unfold wX_totalIn_67
        refine ⟨pk_in i 8 (by omega), ?_⟩
        rw [nI_clamp (show i < 2 ^ 31 by omega), hv]
        refine br_f (fun y => ?_) ⟨pk_in i 8 (by omega), f91 _ _ (Or.inr ⟨_, _, rfl, rfl, la_min_0 z0 z, la_max_0 z0 z⟩)⟩
        have y1 : (0 : Int32) ≤ -1 := Int32.le_trans (nI_pos' (show la_v X i l < 2 ^ 31 by omega)) y
        exact absurd y1 (by decide)
      · subst e1 e2
        have hlo : lo < 1000 := by
          obtain ⟨⟨j, j1, j2, j3⟩, _⟩ := m1
          have := hvlt j (by omega)
          omega
        have hhi : hi < 1000 := by
          obtain ⟨⟨j, j1, j2, j3⟩, _⟩ := m2
          have := hvlt j (by omega)
          omega
        have f67 : ∀ lo', la_min S (la_v X i) s (l + 1) lo' → wX_totalIn_67 post (wX_totalIn_18 post (nI s) (nI i) (nI w) f) (nI s) (nI i) (nI w) (nI hi) x6 (nI l) (nI lo') u.1 u.2.1 u.2.2.1 u.2.2.2.1 u.2.2.2.2.1 u.2.2.2.2.2.1 u.2.2.2.2.2.2.1 (fr') u.2.2.2.2.2.2.2.2.1 u.2.2.2.2.2.2.2.2.2.1 u.2.2.2.2.2.2.2.2.2.2.1 u.2.2.2.2.2.2.2.2.2.2.2.1 u.2.2.2.2.2.2.2.2.2.2.2.2.1 u.2.2.2.2.2.2.2.2.2.2.2.2.2.1 u.2.2.2.2.2.2.2.2.2.2.2.2.2.2.1 u.2.2.2.2.2.2.2.2.2.2.2.2.2.2.2.1 u.2.2.2.2.2.2.2.2.2.2.2.2.2.2.2.2.1 u.2.2.2.2.2.2.2.2.2.2.2.2.2.2.2.2.2.1 u.2.2.2.2.2.2.2.2.2.2.2.2.2.2.2.2.2.2.1 u.2.2.2.2.2.2.2.2.2.2.2.2.2.2.2.2.2.2.2.1 u.2.2.2.2.2.2.2.2.2.2.2.2.2.2.2.2.2.2.2.2.1 u.2.2.2.2.2.2.2.2.2.2.2.2.2.2.2.2.2.2.2.2.2.1 u.2.2.2.2.2.2.2.2.2.2.2.2.2.2.2.2.2.2.2.2.2.2.1 u.2.2.2.2.2.2.2.2.2.2.2.2.2.2.2.2.2.2.2.2.2.2.2.1 (d17) u.2.2.2.2.2.2.2.2.2.2.2.2.2.2.2.2.2.2.2.2.2.2.2.2.2.1 u.2.2.2.2.2.2.2.2.2.2.2.2.2.2.2.2.2.2.2.2.2.2.2.2.2.2.1 u.2.2.2.2.2.2.2.2.2.2.2.2.2.2.2.2.2.2.2.2.2.2.2.2.2.2.2 := by
          intro lo' hm
          unfold wX_totalIn_67
          refine ⟨pk_in i 8 (by omega), ?_⟩
          rw [nI_clamp (show i < 2 ^ 31 by omega), hv]
          exact pk_le (la_v X i l) hi (fun y => f91 _ _ (Or.inr ⟨_, _, rfl, rfl, hm, la_max_1 m2 y⟩)) (fun y => ⟨pk_in i 8 (by omega), f91 _ _ (Or.inr ⟨_, _, rfl, rfl, hm, la_max_2 m2 y z⟩)⟩)
        exact pk_le lo (la_v X i l) (fun y => f67 lo (la_min_1 m1 y)) (fun y => ⟨pk_in i 8 (by omega), f67 _ (la_min_2 m1 y z)⟩)
    · rcases h1 with ⟨z0, e1, e2⟩ | ⟨lo, hi, e1, e2, m1, m2⟩
      · refine Or.inl ⟨fun j hj => ?_, e1, e2⟩
        by_cases e : j = l
        · rw [e]
          exact z
        · exact z0 j (by omega)
      · exact Or.inr ⟨lo, hi, e1, e2, la_min_n m1 z, la_max_n m2 z⟩
    · refine h2.trans (congrArg nI ?_)
      show _ = la_su S (la_v X i) s l + (if S l = s then la_v X i l else 0)
      rw [if_neg z]
      rfl
/-- a row in order -/
def la_so (D : Nat) (R : Nat → Nat) (a : Nat → Int32) : Prop := (∀ m, m < D → a m = nI (R m) ∧ R m < 1000) ∧ (∀ m m', m < m' → m' < D → R m < R m')
theorem la_insert {post : Int32 → St1 → Prop} {u : St1} {D x : Nat} {R : Nat → Nat} (hD : D < 480) (hx : x < 1000) (hR : la_so D R u.2.2.2.2.2.2.2.2.2.2.2.2.2.2.2.2.2.2.2.2.2.2.2.2.2.1)
    (H : ∀ D' R' b18, D' ≤ D + 1 → la_so D' R' b18 → (∀ m, m < D → ∃ m', m' < D' ∧ R' m' = R m) → (∃ m', m' < D' ∧ R' m' = x) → (∀ m', m' < D' → R' m' = x ∨ ∃ m, m < D ∧ R' m' = R m) → post (nI D') (u.1, u.2.1, u.2.2.1, u.2.2.2.1, u.2.2.2.2.1, u.2.2.2.2.2.1, u.2.2.2.2.2.2.1, u.2.2.2.2.2.2.2.1, u.2.2.2.2.2.2.2.2.1, u.2.2.2.2.2.2.2.2.2.1, u.2.2.2.2.2.2.2.2.2.2.1, u.2.2.2.2.2.2.2.2.2.2.2.1, u.2.2.2.2.2.2.2.2.2.2.2.2.1, u.2.2.2.2.2.2.2.2.2.2.2.2.2.1, u.2.2.2.2.2.2.2.2.2.2.2.2.2.2.1, u.2.2.2.2.2.2.2.2.2.2.2.2.2.2.2.1, u.2.2.2.2.2.2.2.2.2.2.2.2.2.2.2.2.1, u.2.2.2.2.2.2.2.2.2.2.2.2.2.2.2.2.2.1, u.2.2.2.2.2.2.2.2.2.2.2.2.2.2.2.2.2.2.1, u.2.2.2.2.2.2.2.2.2.2.2.2.2.2.2.2.2.2.2.1, u.2.2.2.2.2.2.2.2.2.2.2.2.2.2.2.2.2.2.2.2.1, u.2.2.2.2.2.2.2.2.2.2.2.2.2.2.2.2.2.2.2.2.2.1, u.2.2.2.2.2.2.2.2.2.2.2.2.2.2.2.2.2.2.2.2.2.2.1, u.2.2.2.2.2.2.2.2.2.2.2.2.2.2.2.2.2.2.2.2.2.2.2.1, u.2.2.2.2.2.2.2.2.2.2.2.2.2.2.2.2.2.2.2.2.2.2.2.2.1, b18, u.2.2.2.2.2.2.2.2.2.2.2.2.2.2.2.2.2.2.2.2.2.2.2.2.2.2.1, u.2.2.2.2.2.2.2.2.2.2.2.2.2.2.2.2.2.2.2.2.2.2.2.2.2.2.2)) : wpX_insert post u (nI D) (nI x) := by
  obtain ⟨hR1, hR2⟩ := hR
  obtain ⟨c, c1, c2, c3⟩ := la_find (fun m => decide (x ≤ R m)) D
  have hlo : ∀ j, j < c → R j < x := fun j hj => by
    have := of_decide_eq_false (c2 j hj)
    omega
  have h44 : (c < D → x ≠ R c) → ∃ f, wX_insert_44 post (nI D) (nI x) (nI c) u.1 u.2.1 u.2.2.1 u.2.2.2.1 u.2.2.2.2.1 u.2.2.2.2.2.1 u.2.2.2.2.2.2.1 u.2.2.2.2.2.2.2.1 f (nI D) u.2.2.2.2.2.2.2.2.1 u.2.2.2.2.2.2.2.2.2.1 u.2.2.2.2.2.2.2.2.2.2.1 u.2.2.2.2.2.2.2.2.2.2.2.1 u.2.2.2.2.2.2.2.2.2.2.2.2.1 u.2.2.2.2.2.2.2.2.2.2.2.2.2.1 u.2.2.2.2.2.2.2.2.2.2.2.2.2.2.1 u.2.2.2.2.2.2.2.2.2.2.2.2.2.2.2.1 u.2.2.2.2.2.2.2.2.2.2.2.2.2.2.2.2.1 u.2.2.2.2.2.2.2.2.2.2.2.2.2.2.2.2.2.1 u.2.2.2.2.2.2.2.2.2.2.2.2.2.2.2.2.2.2.1 u.2.2.2.2.2.2.2.2.2.2.2.2.2.2.2.2.2.2.2.1 u.2.2.2.2.2.2.2.2.2.2.2.2.2.2.2.2.2.2.2.2.1 u.2.2.2.2.2.2.2.2.2.2.2.2.2.2.2.2.2.2.2.2.2.1 u.2.2.2.2.2.2.2.2.2.2.2.2.2.2.2.2.2.2.2.2.2.2.1 u.2.2.2.2.2.2.2.2.2.2.2.2.2.2.2.2.2.2.2.2.2.2.2.1 u.2.2.2.2.2.2.2.2.2.2.2.2.2.2.2.2.2.2.2.2.2.2.2.2.1 u.2.2.2.2.2.2.2.2.2.2.2.2.2.2.2.2.2.2.2.2.2.2.2.2.2.1 u.2.2.2.2.2.2.2.2.2.2.2.2.2.2.2.2.2.2.2.2.2.2.2.2.2.2.1 u.2.2.2.2.2.2.2.2.2.2.2.2.2.2.2.2.2.2.2.2.2.2.2.2.2.2.2 := by
    intro hne
    have hup : ∀ j, c ≤ j → j < D → x < R j := fun j h1 h2 => by
      have y1 := of_decide_eq_true (c3 (by omega))
      have y2 := hne (by omega)
      by_cases e : j = c
      · rw [e]
        omega
      · have := hR2 c j (by omega) h2
        omega
    refine pk_loop (σ := Nat → Int32) (fun f i b => wX_insert_44 post (nI D) (nI x) (nI c) u.1 u.2.1 u.2.2.1 u.2.2.2.1 u.2.2.2.2.1 u.2.2.2.2.2.1 u.2.2.2.2.2.2.1 u.2.2.2.2.2.2.2.1 f (nI (D - i)) u.2.2.2.2.2.2.2.2.1 u.2.2.2.2.2.2.2.2.2.1 u.2.2.2.2.2.2.2.2.2.2.1 u.2.2.2.2.2.2.2.2.2.2.2.1 u.2.2.2.2.2.2.2.2.2.2.2.2.1 u.2.2.2.2.2.2.2.2.2.2.2.2.2.1 u.2.2.2.2.2.2.2.2.2.2.2.2.2.2.1 u.2.2.2.2.2.2.2.2.2.2.2.2.2.2.2.1 u.2.2.2.2.2.2.2.2.2.2.2.2.2.2.2.2.1 u.2.2.2.2.2.2.2.2.2.2.2.2.2.2.2.2.2.1 u.2.2.2.2.2.2.2.2.2.2.2.2.2.2.2.2.2.2.1 u.2.2.2.2.2.2.2.2.2.2.2.2.2.2.2.2.2.2.2.1 u.2.2.2.2.2.2.2.2.2.2.2.2.2.2.2.2.2.2.2.2.1 u.2.2.2.2.2.2.2.2.2.2.2.2.2.2.2.2.2.2.2.2.2.1 u.2.2.2.2.2.2.2.2.2.2.2.2.2.2.2.2.2.2.2.2.2.2.1 u.2.2.2.2.2.2.2.2.2.2.2.2.2.2.2.2.2.2.2.2.2.2.2.1 u.2.2.2.2.2.2.2.2.2.2.2.2.2.2.2.2.2.2.2.2.2.2.2.2.1 (b) u.2.2.2.2.2.2.2.2.2.2.2.2.2.2.2.2.2.2.2.2.2.2.2.2.2.2.1 u.2.2.2.2.2.2.2.2.2.2.2.2.2.2.2.2.2.2.2.2.2.2.2.2.2.2.2) (fun i b => (∀ m, m < D - i → b m = u.2.2.2.2.2.2.2.2.2.2.2.2.2.2.2.2.2.2.2.2.2.2.2.2.2.1 m) ∧ (∀ m, D - i < m → m ≤ D → b m = u.2.2.2.2.2.2.2.2.2.2.2.2.2.2.2.2.2.2.2.2.2.2.2.2.2.1 (m - 1))) (D - c) 0 u.2.2.2.2.2.2.2.2.2.2.2.2.2.2.2.2.2.2.2.2.2.2.2.2.2.1 (by omega) ⟨fun _ _ => rfl, fun m h1 h2 => absurd h1 (by omega)⟩
      (fun f b h => ?_) (fun f i b hi h hw => ?_)
    · rw [show D - (D - c) = c by omega] at h ⊢
      refine pk_le c c (fun _ => ⟨pk_in c 480 (by omega), nm_e ?_⟩) (fun z => absurd z (by omega))
      rw [nI_clamp (show c < 2 ^ 31 by omega), nI_1]
      refine H (D + 1) (fun m => if m < c then R m else if m = c then x else R (m - 1)) _ (by omega) ⟨fun m hm => ?_, fun m m' h1 h2 => ?_⟩ (fun m hm => ?_) ⟨c, by omega, ?_⟩ (fun m hm => ?_)
      · dsimp only
        by_cases e1 : m < c
        · rw [if_pos e1, pk_un (by omega), h.1 m e1]
          exact hR1 m (by omega)
        · rw [if_neg e1]
          by_cases e2 : m = c
          · rw [if_pos e2, e2, pk_us]
            exact ⟨rfl, hx⟩
          · rw [if_neg e2, pk_un e2, h.2 m (by omega) (by omega)]
            exact hR1 (m - 1) (by omega)
      · dsimp only
        by_cases e1 : m < c
        · rw [if_pos e1]
          by_cases e3 : m' < c
          · rw [if_pos e3]
            exact hR2 m m' h1 (by omega)
          · rw [if_neg e3]
            by_cases e4 : m' = c
            · rw [if_pos e4]
              exact hlo m e1
            · rw [if_neg e4]
              have y1 := hlo m e1
              have y2 := hup (m' - 1) (by omega) (by omega)
              omega
        · rw [if_neg e1, if_neg (show ¬ m' < c by omega), if_neg (show ¬ m' = c by omega)]
          by_cases e2 : m = c
          · rw [if_pos e2]
            exact hup (m' - 1) (by omega) (by omega)
          · rw [if_neg e2]
            exact hR2 (m - 1) (m' - 1) (by omega) (by omega)
      · by_cases e1 : m < c
        · exact ⟨m, by omega, if_pos e1⟩
        · refine ⟨m + 1, by omega, ?_⟩
          rw [if_neg (by omega), if_neg (by omega)]
          rfl
      · rw [if_neg (by omega), if_pos rfl]
      · by_cases e1 : m < c
        · exact Or.inr ⟨m, by omega, if_pos e1⟩
        · by_cases e2 : m = c
          · exact Or.inl (by rw [if_neg e1, if_pos e2])
          · exact Or.inr ⟨m - 1, by omega, by rw [if_neg e1, if_neg e2]⟩
    · have e1 : nI (D - i) - 1 = nI (D - i - 1) := la_m1 (by omega)
      refine pk_le (D - i) c (fun z => absurd z (by omega)) (fun _ => ⟨pk_in (D - i - 1) 480 (by omega) e1, pk_in (D - i) 480 (by omega), nm_e (nm_r (sb_m1 (by omega)) ?_)⟩)
      rw [e1, nI_clamp (show D - i < 2 ^ 31 by omega), nI_clamp (show D - i - 1 < 2 ^ 31 by omega), show D - i - 1 = D - (i + 1) by omega]
      refine hw _ ⟨fun m hm => ?_, fun m h1 h2 => ?_⟩
      · rw [pk_un (by omega)]
        exact h.1 m (by omega)
      · by_cases e : m = D - i
        · rw [e, pk_us, h.1 _ (by omega)]
          congr 1
        · rw [pk_un e]
          exact h.2 m (by omega) h2
  have h24 : wX_insert_24 post (nI D) (nI x) (nI c) u.1 u.2.1 u.2.2.1 u.2.2.2.1 u.2.2.2.2.1 u.2.2.2.2.2.1 u.2.2.2.2.2.2.1 u.2.2.2.2.2.2.2.1 u.2.2.2.2.2.2.2.2.1 u.2.2.2.2.2.2.2.2.2.1 u.2.2.2.2.2.2.2.2.2.2.1 u.2.2.2.2.2.2.2.2.2.2.2.1 u.2.2.2.2.2.2.2.2.2.2.2.2.1 u.2.2.2.2.2.2.2.2.2.2.2.2.2.1 u.2.2.2.2.2.2.2.2.2.2.2.2.2.2.1 u.2.2.2.2.2.2.2.2.2.2.2.2.2.2.2.1 u.2.2.2.2.2.2.2.2.2.2.2.2.2.2.2.2.1 u.2.2.2.2.2.2.2.2.2.2.2.2.2.2.2.2.2.1 u.2.2.2.2.2.2.2.2.2.2.2.2.2.2.2.2.2.2.1 u.2.2.2.2.2.2.2.2.2.2.2.2.2.2.2.2.2.2.2.1 u.2.2.2.2.2.2.2.2.2.2.2.2.2.2.2.2.2.2.2.2.1 u.2.2.2.2.2.2.2.2.2.2.2.2.2.2.2.2.2.2.2.2.2.1 u.2.2.2.2.2.2.2.2.2.2.2.2.2.2.2.2.2.2.2.2.2.2.1 u.2.2.2.2.2.2.2.2.2.2.2.2.2.2.2.2.2.2.2.2.2.2.2.1 u.2.2.2.2.2.2.2.2.2.2.2.2.2.2.2.2.2.2.2.2.2.2.2.2.1 u.2.2.2.2.2.2.2.2.2.2.2.2.2.2.2.2.2.2.2.2.2.2.2.2.2.1 u.2.2.2.2.2.2.2.2.2.2.2.2.2.2.2.2.2.2.2.2.2.2.2.2.2.2.1 u.2.2.2.2.2.2.2.2.2.2.2.2.2.2.2.2.2.2.2.2.2.2.2.2.2.2.2 := by
    unfold wX_insert_24
    refine pk_le D c (fun z => h44 (fun y => absurd y (by omega))) (fun z => ⟨pk_in c 480 (by omega), ?_⟩)
    rw [nI_clamp (show c < 2 ^ 31 by omega), (hR1 c z).1]
    have hRc := (hR1 c z).2
    refine pk_eq (R c) x (fun y => ?_) (fun y => h44 (fun _ e => y e.symm))
    exact H D R u.2.2.2.2.2.2.2.2.2.2.2.2.2.2.2.2.2.2.2.2.2.2.2.2.2.1 (by omega) ⟨hR1, hR2⟩ (fun m hm => ⟨m, hm, rfl⟩) ⟨c, z, y⟩ (fun m hm => Or.inr ⟨m, hm, rfl⟩)
  unfold wpX_insert
  refine pk_loop (σ := Unit) (fun f i _ => wX_insert_2 post (nI D) (nI x) u.1 u.2.1 u.2.2.1 u.2.2.2.1 u.2.2.2.2.1 u.2.2.2.2.2.1 u.2.2.2.2.2.2.1 u.2.2.2.2.2.2.2.1 u.2.2.2.2.2.2.2.2.1 u.2.2.2.2.2.2.2.2.2.1 u.2.2.2.2.2.2.2.2.2.2.1 u.2.2.2.2.2.2.2.2.2.2.2.1 u.2.2.2.2.2.2.2.2.2.2.2.2.1 u.2.2.2.2.2.2.2.2.2.2.2.2.2.1 u.2.2.2.2.2.2.2.2.2.2.2.2.2.2.1 u.2.2.2.2.2.2.2.2.2.2.2.2.2.2.2.1 u.2.2.2.2.2.2.2.2.2.2.2.2.2.2.2.2.1 u.2.2.2.2.2.2.2.2.2.2.2.2.2.2.2.2.2.1 u.2.2.2.2.2.2.2.2.2.2.2.2.2.2.2.2.2.2.1 u.2.2.2.2.2.2.2.2.2.2.2.2.2.2.2.2.2.2.2.1 u.2.2.2.2.2.2.2.2.2.2.2.2.2.2.2.2.2.2.2.2.1 u.2.2.2.2.2.2.2.2.2.2.2.2.2.2.2.2.2.2.2.2.2.1 u.2.2.2.2.2.2.2.2.2.2.2.2.2.2.2.2.2.2.2.2.2.2.1 u.2.2.2.2.2.2.2.2.2.2.2.2.2.2.2.2.2.2.2.2.2.2.2.1 u.2.2.2.2.2.2.2.2.2.2.2.2.2.2.2.2.2.2.2.2.2.2.2.2.1 u.2.2.2.2.2.2.2.2.2.2.2.2.2.2.2.2.2.2.2.2.2.2.2.2.2.1 u.2.2.2.2.2.2.2.2.2.2.2.2.2.2.2.2.2.2.2.2.2.2.2.2.2.2.1 u.2.2.2.2.2.2.2.2.2.2.2.2.2.2.2.2.2.2.2.2.2.2.2.2.2.2.2 f (nI (D - i))) (fun _ _ => True) (D - c) 0 () (by omega) trivial
    (fun f _ _ => ?_) (fun f i _ hi _ hw => ?_)
  · rw [show D - (D - c) = c by omega]
    refine pk_le c 0 (fun _ => h24) (fun z => ⟨pk_in (c - 1) 480 (by omega) (la_m1 (by omega)), ?_⟩)
    rw [pk_cl (c - 1) (la_m1 (a := c) (by omega)), (hR1 (c - 1) (by omega)).1]
    have hRc := (hR1 (c - 1) (by omega)).2
    exact pk_lt (R (c - 1)) x (fun _ => h24) (fun y => absurd (hlo (c - 1) (by omega)) (by omega))
  · refine pk_le (D - i) 0 (fun z => absurd z (by omega)) (fun z => ⟨pk_in (D - i - 1) 480 (by omega) (la_m1 (by omega)), ?_⟩)
    rw [pk_cl (D - i - 1) (la_m1 (a := D - i) (by omega)), (hR1 (D - i - 1) (by omega)).1]
    have hRc := (hR1 (D - i - 1) (by omega)).2
    refine pk_lt (R (D - i - 1)) x (fun y => ?_) (fun _ => nm_r (sb_m1 (by omega)) ?_)
    · have y1 := of_decide_eq_true (c3 (by omega))
      by_cases e : D - i - 1 = c
      · rw [e] at y
        omega
      · have := hR2 c (D - i - 1) (by omega) (by omega)
        omega
    · rw [show D - i - 1 = D - (i + 1) by omega]
      exact hw () trivial
theorem la_differentIn {post : Int32 → St1 → Prop} {u : St1} {n k s i : Nat} {T : Nat → Nat} {X : Nat → List Nat} {S : Nat → Nat} {SL : Nat → List Nat} (hI : la_I n k T X S SL u) (hs : s < k) (hi : i < (SL s).length) (hb : (SL s).getD i 0 = 1000)
    (H : ∀ u' D, la_q u' = la_q u → 1 ≤ D → D ≤ la_c S n s → (D = 1 ↔ ∀ j j', j < n → j' < n → S j = s → S j' = s → la_v X i j = la_v X i j') → post (nI D) u') : wpX_differentIn post u (nI s) (nI i) := by
  have hI' := hI
  obtain ⟨⟨⟨hA1, hA2, hA3, hA4, hA5⟩, hln, hsh, hB, hC, hD⟩, hO⟩ := hI'
  have h8 := hA5 s hs
  have hvlt : ∀ j, j < n → la_v X i j < 1000 := fun j hj => by
    have := la_getD_lt (hA3 j hj).1.2.2 i
    unfold la_v
    omega
  unfold wpX_differentIn
  refine la_clear (fun b17 g => ?_)
  refine pk_loop (σ := Nat × Int32 × (Nat → Int32) × (Nat → Int32)) (fun f l st => wX_differentIn_9 post (nI s) (nI i) f (nI st.1) (nI l) u.1 u.2.1 u.2.2.1 u.2.2.2.1 u.2.2.2.2.1 u.2.2.2.2.2.1 u.2.2.2.2.2.2.1 (st.2.1) u.2.2.2.2.2.2.2.2.1 u.2.2.2.2.2.2.2.2.2.1 u.2.2.2.2.2.2.2.2.2.2.1 u.2.2.2.2.2.2.2.2.2.2.2.1 u.2.2.2.2.2.2.2.2.2.2.2.2.1 u.2.2.2.2.2.2.2.2.2.2.2.2.2.1 u.2.2.2.2.2.2.2.2.2.2.2.2.2.2.1 u.2.2.2.2.2.2.2.2.2.2.2.2.2.2.2.1 u.2.2.2.2.2.2.2.2.2.2.2.2.2.2.2.2.1 u.2.2.2.2.2.2.2.2.2.2.2.2.2.2.2.2.2.1 u.2.2.2.2.2.2.2.2.2.2.2.2.2.2.2.2.2.2.1 u.2.2.2.2.2.2.2.2.2.2.2.2.2.2.2.2.2.2.2.1 u.2.2.2.2.2.2.2.2.2.2.2.2.2.2.2.2.2.2.2.2.1 u.2.2.2.2.2.2.2.2.2.2.2.2.2.2.2.2.2.2.2.2.2.1 u.2.2.2.2.2.2.2.2.2.2.2.2.2.2.2.2.2.2.2.2.2.2.1 u.2.2.2.2.2.2.2.2.2.2.2.2.2.2.2.2.2.2.2.2.2.2.2.1 (st.2.2.1) (st.2.2.2) u.2.2.2.2.2.2.2.2.2.2.2.2.2.2.2.2.2.2.2.2.2.2.2.2.2.2.1 u.2.2.2.2.2.2.2.2.2.2.2.2.2.2.2.2.2.2.2.2.2.2.2.2.2.2.2)
    (fun l st => ∃ R, la_so st.1 R st.2.2.2 ∧ st.1 ≤ la_c S l s ∧ (∀ j, j < l → S j = s → ∃ m, m < st.1 ∧ R m = la_v X i j) ∧ (∀ m, m < st.1 → ∃ j, j < l ∧ S j = s ∧ R m = la_v X i j) ∧ la_N S X SL s l st.2.2.1) n 0 (0, u.2.2.2.2.2.2.2.1, b17, u.2.2.2.2.2.2.2.2.2.2.2.2.2.2.2.2.2.2.2.2.2.2.2.2.2.1) (by omega)
    ⟨fun _ => 0, ⟨fun m h => absurd h (by omega), fun m m' _ h => absurd h (by omega)⟩, by omega, fun j h => absurd h (by omega), fun m h => absurd h (by omega), la_N_0 h8 g⟩
    (fun f st h => ?_) (fun f l st hl h hk => ?_)
  · obtain ⟨D, fr, c17, c18⟩ := st
    obtain ⟨R, ⟨r1, r2⟩, h1, h2, h3, h4⟩ := h
    dsimp only at r1 r2 h1 h2 h3 h4 ⊢
    refine pk_le n n (fun _ => H _ D rfl ?_ h1 ?_) (fun z => absurd z (by omega)) hln
    · obtain ⟨l, l1, l2⟩ := hO.2.1 s hs
      obtain ⟨m, m1, m2⟩ := h2 l l1 l2
      omega
    · constructor
      · intro e j j' j1 j2 j3 j4
        obtain ⟨m, m1, m2⟩ := h2 j j1 j3
        obtain ⟨m', m3, m4⟩ := h2 j' j2 j4
        have e1 : m = m' := by omega
        rw [← m2, ← m4, e1]
      · intro e
        obtain ⟨l, l1, l2⟩ := hO.2.1 s hs
        obtain ⟨m, m1, m2⟩ := h2 l l1 l2
        rcases Nat.lt_or_ge 1 D with z | z
        · obtain ⟨j, j1, j2, j3⟩ := h3 0 (by omega)
          obtain ⟨j', j4, j5, j6⟩ := h3 1 z
          have y1 := r2 0 1 (by omega) z
          have y2 := e j j' j1 j4 j2 j5
          omega
        · omega
  · obtain ⟨D, fr, c17, c18⟩ := st
    obtain ⟨R, hR, h1, h2, h3, h4⟩ := h
    dsimp only at hR h1 h2 h3 h4 ⊢
    refine pk_le n l (fun z => absurd z (by omega)) (fun _ => ⟨pk_in l 60 (by omega), ?_⟩) hln
    have hsl := (hA3 l hl).2.2.1
    have hcl := la_c_le S l s
    have hcs : la_c S (l + 1) s = la_c S l s + (if decide (S l = s) = true then 1 else 0) := rfl
    rw [nI_clamp (show l < 2 ^ 31 by omega), (hB.1 l hl).2]
    refine pk_eq (S l) s (fun z => ?_) (fun z => nm_r (nI_1 l) (hk (D, fr, c17, c18) ⟨R, hR, ?_, fun j hj e => ?_, fun m hm => ?_, la_N_skip h4 z⟩))
    · refine la_addLine (u := (u.1, u.2.1, u.2.2.1, u.2.2.2.1, u.2.2.2.2.1, u.2.2.2.2.2.1, u.2.2.2.2.2.2.1, fr, u.2.2.2.2.2.2.2.2.1, u.2.2.2.2.2.2.2.2.2.1, u.2.2.2.2.2.2.2.2.2.2.1, u.2.2.2.2.2.2.2.2.2.2.2.1, u.2.2.2.2.2.2.2.2.2.2.2.2.1, u.2.2.2.2.2.2.2.2.2.2.2.2.2.1, u.2.2.2.2.2.2.2.2.2.2.2.2.2.2.1, u.2.2.2.2.2.2.2.2.2.2.2.2.2.2.2.1, u.2.2.2.2.2.2.2.2.2.2.2.2.2.2.2.2.1, u.2.2.2.2.2.2.2.2.2.2.2.2.2.2.2.2.2.1, u.2.2.2.2.2.2.2.2.2.2.2.2.2.2.2.2.2.2.1, u.2.2.2.2.2.2.2.2.2.2.2.2.2.2.2.2.2.2.2.1, u.2.2.2.2.2.2.2.2.2.2.2.2.2.2.2.2.2.2.2.2.1, u.2.2.2.2.2.2.2.2.2.2.2.2.2.2.2.2.2.2.2.2.2.1, u.2.2.2.2.2.2.2.2.2.2.2.2.2.2.2.2.2.2.2.2.2.2.1, u.2.2.2.2.2.2.2.2.2.2.2.2.2.2.2.2.2.2.2.2.2.2.2.1, c17, c18, u.2.2.2.2.2.2.2.2.2.2.2.2.2.2.2.2.2.2.2.2.2.2.2.2.2.2.1, u.2.2.2.2.2.2.2.2.2.2.2.2.2.2.2.2.2.2.2.2.2.2.2.2.2.2.2)) (la_I1_q (u := u) rfl hI.1) hl z h4 (fun fr' d17 g' => ⟨pk_in i 8 (by omega), ?_⟩)
      dsimp only
      have hv : d17 i = nI (la_v X i l) := by
        rw [g' i hi hb, la_V_y z]
        rfl
      rw [nI_clamp (show i < 2 ^ 31 by omega), hv]
      refine la_insert (u := (u.1, u.2.1, u.2.2.1, u.2.2.2.1, u.2.2.2.2.1, u.2.2.2.2.2.1, u.2.2.2.2.2.2.1, fr', u.2.2.2.2.2.2.2.2.1, u.2.2.2.2.2.2.2.2.2.1, u.2.2.2.2.2.2.2.2.2.2.1, u.2.2.2.2.2.2.2.2.2.2.2.1, u.2.2.2.2.2.2.2.2.2.2.2.2.1, u.2.2.2.2.2.2.2.2.2.2.2.2.2.1, u.2.2.2.2.2.2.2.2.2.2.2.2.2.2.1, u.2.2.2.2.2.2.2.2.2.2.2.2.2.2.2.1, u.2.2.2.2.2.2.2.2.2.2.2.2.2.2.2.2.1, u.2.2.2.2.2.2.2.2.2.2.2.2.2.2.2.2.2.1, u.2.2.2.2.2.2.2.2.2.2.2.2.2.2.2.2.2.2.1, u.2.2.2.2.2.2.2.2.2.2.2.2.2.2.2.2.2.2.2.1, u.2.2.2.2.2.2.2.2.2.2.2.2.2.2.2.2.2.2.2.2.1, u.2.2.2.2.2.2.2.2.2.2.2.2.2.2.2.2.2.2.2.2.2.1, u.2.2.2.2.2.2.2.2.2.2.2.2.2.2.2.2.2.2.2.2.2.2.1, u.2.2.2.2.2.2.2.2.2.2.2.2.2.2.2.2.2.2.2.2.2.2.2.1, d17, c18, u.2.2.2.2.2.2.2.2.2.2.2.2.2.2.2.2.2.2.2.2.2.2.2.2.2.2.1, u.2.2.2.2.2.2.2.2.2.2.2.2.2.2.2.2.2.2.2.2.2.2.2.2.2.2.2)) (R := R) (by omega) (hvlt l hl) hR (fun D' R' b18 q1 q2 q3 q4 q5 => nm_r (nI_1 l) (hk (D', fr', d17, b18) ⟨R', q2, ?_, fun j hj e => ?_, fun m hm => ?_, g'⟩))
      · rw [hcs, if_pos (decide_eq_true z)]
        dsimp only
        omega
      · by_cases ej : j = l
        · rw [ej]
          exact q4
        · obtain ⟨m, m1, m2⟩ := h2 j (by omega) e
          obtain ⟨m', m3, m4⟩ := q3 m m1
          exact ⟨m', m3, by rw [m4, m2]⟩
      · rcases q5 m hm with y | ⟨m', m1, m2⟩
        · exact ⟨l, by omega, z, y⟩
        · obtain ⟨j, j1, j2, j3⟩ := h3 m' m1
          exact ⟨j, by omega, j2, by rw [m2, j3]⟩
    · rw [hcs, if_neg (by simp [z])]
      exact h1
    · by_cases ej : j = l
      · rw [ej] at e
        exact absurd e z
      · exact h2 j (by omega) e
    · obtain ⟨j, j1, j2, j3⟩ := h3 m hm
      exact ⟨j, by omega, j2, j3⟩
theorem la_colW {post : Int32 → St1 → Prop} {u : St1} {n k l i w : Nat} {T : Nat → Nat} {X : Nat → List Nat} {S : Nat → Nat} {SL : Nat → List Nat} (hI : la_I n k T X S SL u) (hl : l < n) (hi : i < (X l).length) (hw : w ≤ 3)
    (H0 : (X l).getD i 0 < 1000 → post (-2) u) (H3 : 1000 ≤ (X l).getD i 0 → w = 3 → wpX_differentIn post u (nI (S l)) (nI i)) (H2 : 1000 ≤ (X l).getD i 0 → w < 3 → wpX_totalIn post u (nI (S l)) (nI i) (nI w)) : wpX_column post u (nI l) (nI i) (nI w) := by
  have hI' := hI
  obtain ⟨⟨⟨hA1, hA2, hA3, hA4, hA5⟩, hln, hsh, hB, hC, hD⟩, hO⟩ := hI'
  obtain ⟨hr, hT, hsk, hSL⟩ := hA3 l hl
  have hlen : (SL (S l)).length = (X l).length := by
    rw [hSL, List.length_map]
  have hlen8 := hr.2.1
  have hgo := la_get_ok hr hi
  have hbl : (SL (S l)).getD i 0 = la_bl ((X l).getD i 0) := by
    rw [hSL, la_getD_map hi]
  obtain ⟨ha7, ha8, _⟩ := hB.2.1 (S l) hsk
  unfold wpX_column
  refine la_isLine hln hA1 hl (br_f (by decide) (br_f (nI_pos (by omega)) (pk_le w 3 (fun _ => ⟨pk_in l 60 (by omega), ?_⟩) (fun z => absurd z (by omega)))))
  rw [nI_clamp (show l < 2 ^ 31 by omega), (hB.1 l hl).2]
  refine nm_e (br_f (nI_pos (by omega)) ⟨pk_in (S l) 60 (by omega), ?_⟩)
  rw [nI_clamp (show S l < 2 ^ 31 by omega), ha7, hlen]
  refine pk_le (X l).length i (fun z => absurd z (by omega)) (fun _ => ⟨pk_in (8 * S l + i) 480 (by omega) (la_ix (S l) i), ?_⟩)
  rw [pk_cl (8 * S l + i) (la_ix (S l) i), ha8 i (by omega), hbl]
  refine pk_eq (la_bl ((X l).getD i 0)) 1000 (fun z => pk_eq w 3 (fun y => H3 ((la_bl_eq hgo).mp z) y) (fun y => H2 ((la_bl_eq hgo).mp z) (by omega))) (fun z => H0 ?_) rfl rfl (by unfold la_bl; split <;> omega)
  rcases Nat.lt_or_ge ((X l).getD i 0) 1000 with y | y
  · exact y
  · exact absurd (la_bl_n y) z
end
section
/-! patterns of plain items -/
theorem la_f1 : ∀ i, i < 9 → ∀ k, k < 9 → (((nI (2 ^ i) >>> (nI k &&& 31)) &&& 1 = 1) ↔ k = i) := by decide +kernel
theorem la_f2 : ∀ k, k < 9 → ¬ (((0 : Int32) >>> (nI k &&& 31)) &&& 1 = 1) := by decide +kernel
theorem la_f3 : ∀ k, k < 8 → (1 : Int32) <<< ((nI k + 1) &&& 31) = nI (2 ^ (k + 1)) := by decide +kernel
theorem la_overGaps {post : Int32 → Prop} {u : St1} {p : List Nat} (hp : la_dr p u.2.1 u.2.2.2.2.2.2.2.2.2.1) (hr : la_row p) {x : Int32} (H : post x) : wpX_overGaps post u x := by
  obtain ⟨hpc, ha2⟩ := hp
  have hl8 := hr.2.1
  unfold wpX_overGaps
  refine pk_loop (σ := Unit) (fun f i _ => wX_overGaps_4 post u.1 u.2.1 u.2.2.1 u.2.2.2.1 u.2.2.2.2.1 u.2.2.2.2.2.1 u.2.2.2.2.2.2.1 u.2.2.2.2.2.2.2.1 u.2.2.2.2.2.2.2.2.1 u.2.2.2.2.2.2.2.2.2.1 u.2.2.2.2.2.2.2.2.2.2.1 u.2.2.2.2.2.2.2.2.2.2.2.1 u.2.2.2.2.2.2.2.2.2.2.2.2.1 u.2.2.2.2.2.2.2.2.2.2.2.2.2.1 u.2.2.2.2.2.2.2.2.2.2.2.2.2.2.1 u.2.2.2.2.2.2.2.2.2.2.2.2.2.2.2.1 u.2.2.2.2.2.2.2.2.2.2.2.2.2.2.2.2.1 u.2.2.2.2.2.2.2.2.2.2.2.2.2.2.2.2.2.1 u.2.2.2.2.2.2.2.2.2.2.2.2.2.2.2.2.2.2.1 u.2.2.2.2.2.2.2.2.2.2.2.2.2.2.2.2.2.2.2.1 u.2.2.2.2.2.2.2.2.2.2.2.2.2.2.2.2.2.2.2.2.1 u.2.2.2.2.2.2.2.2.2.2.2.2.2.2.2.2.2.2.2.2.2.1 u.2.2.2.2.2.2.2.2.2.2.2.2.2.2.2.2.2.2.2.2.2.2.1 u.2.2.2.2.2.2.2.2.2.2.2.2.2.2.2.2.2.2.2.2.2.2.2.1 u.2.2.2.2.2.2.2.2.2.2.2.2.2.2.2.2.2.2.2.2.2.2.2.2.1 u.2.2.2.2.2.2.2.2.2.2.2.2.2.2.2.2.2.2.2.2.2.2.2.2.2.1 u.2.2.2.2.2.2.2.2.2.2.2.2.2.2.2.2.2.2.2.2.2.2.2.2.2.2.1 u.2.2.2.2.2.2.2.2.2.2.2.2.2.2.2.2.2.2.2.2.2.2.2.2.2.2.2 f x (nI i)) (fun _ _ => True) p.length 0 () (by omega) trivial
    (fun f _ _ => pk_le p.length p.length (fun _ => H) (fun z => absurd z (by omega)) hpc) (fun f i _ hi _ hw => pk_le p.length i (fun z => absurd z (by omega)) (fun _ => br_c (fun _ => ⟨pk_in i 8 (by omega), ?_⟩) (fun _ => nm_r (Int32.or_zero) (nm_r (nI_1 i) (hw () trivial)))) hpc)
  rw [nI_clamp (show i < 2 ^ 31 by omega), ha2 i hi]
  have h2 := la_ok_lt (la_get_ok hr hi)
  exact pk_eq (p.getD i 0) 2002 (fun z => absurd z (by omega)) (fun _ => nm_r (Int32.or_zero) (nm_r (nI_1 i) (hw () trivial)))
theorem la_takes0 {post : Int32 → Prop} {q x : Nat} (hq : la_ok q) (hx : x < 2 ^ 31) (H1 : q = x → post 1) (H0 : ¬ q = x → post 0) : wpX_takes post () (nI q) (nI x) 0 := by
  have h2 := la_ok_lt hq
  unfold wpX_takes
  exact pk_eq q 2000 (fun z => absurd z (by omega)) (fun _ => br_t rfl (pk_le 2000 q (fun z => absurd z (by omega)) (fun _ => pk_eq q x H1 H0)))
theorem la_takes1 {post : Int32 → Prop} {q : Nat} {x : Int32} (hq : la_ok q) (H1 : 1000 ≤ q → post 1) (H0 : ¬ 1000 ≤ q → post 0) : wpX_takes post () (nI q) x 1 := by
  have h2 := la_ok_lt hq
  unfold wpX_takes
  exact pk_eq q 2000 (fun z => absurd z (by omega)) (fun _ => br_f (by decide) (pk_lt q 1000 (fun z => H0 (by omega)) (fun z => H1 z)))
theorem la_after0 {post : Int32 → Prop} {u : St1} {p : List Nat} (hp : la_dr p u.2.1 u.2.2.2.2.2.2.2.2.2.1) (hr : la_row p) {x2 x3 : Int32} (H : post 0) : wpX_after post u 0 x2 x3 := by
  have hp' := hp
  obtain ⟨hpc, ha2⟩ := hp'
  have hl8 := hr.2.1
  unfold wpX_after
  exact pk_loop (σ := Unit) (fun f i _ => wX_after_6 post 0 x2 x3 u.1 u.2.1 u.2.2.1 u.2.2.2.1 u.2.2.2.2.1 u.2.2.2.2.2.1 u.2.2.2.2.2.2.1 u.2.2.2.2.2.2.2.1 u.2.2.2.2.2.2.2.2.1 u.2.2.2.2.2.2.2.2.2.1 u.2.2.2.2.2.2.2.2.2.2.1 u.2.2.2.2.2.2.2.2.2.2.2.1 u.2.2.2.2.2.2.2.2.2.2.2.2.1 u.2.2.2.2.2.2.2.2.2.2.2.2.2.1 u.2.2.2.2.2.2.2.2.2.2.2.2.2.2.1 u.2.2.2.2.2.2.2.2.2.2.2.2.2.2.2.1 u.2.2.2.2.2.2.2.2.2.2.2.2.2.2.2.2.1 u.2.2.2.2.2.2.2.2.2.2.2.2.2.2.2.2.2.1 u.2.2.2.2.2.2.2.2.2.2.2.2.2.2.2.2.2.2.1 u.2.2.2.2.2.2.2.2.2.2.2.2.2.2.2.2.2.2.2.1 u.2.2.2.2.2.2.2.2.2.2.2.2.2.2.2.2.2.2.2.2.1 u.2.2.2.2.2.2.2.2.2.2.2.2.2.2.2.2.2.2.2.2.2.1 u.2.2.2.2.2.2.2.2.2.2.2.2.2.2.2.2.2.2.2.2.2.2.1 u.2.2.2.2.2.2.2.2.2.2.2.2.2.2.2.2.2.2.2.2.2.2.2.1 u.2.2.2.2.2.2.2.2.2.2.2.2.2.2.2.2.2.2.2.2.2.2.2.2.1 u.2.2.2.2.2.2.2.2.2.2.2.2.2.2.2.2.2.2.2.2.2.2.2.2.2.1 u.2.2.2.2.2.2.2.2.2.2.2.2.2.2.2.2.2.2.2.2.2.2.2.2.2.2.1 u.2.2.2.2.2.2.2.2.2.2.2.2.2.2.2.2.2.2.2.2.2.2.2.2.2.2.2 f 0 (nI i)) (fun _ _ => True) p.length 0 () (by omega) trivial
    (fun f _ _ => pk_le p.length p.length (fun _ => la_overGaps hp hr H) (fun z => absurd z (by omega)) hpc) (fun f i _ hi _ hw => pk_le p.length i (fun z => absurd z (by omega)) (fun _ => br_f (la_f2 i (by omega)) (nm_r (nI_1 i) (hw () trivial))) hpc)
theorem la_after1 {post : Int32 → Prop} {u : St1} {p : List Nat} {i : Nat} {t : Prop} (hp : la_dr p u.2.1 u.2.2.2.2.2.2.2.2.2.1) (hr : la_row p) (hi : i < 9) {x2 x3 : Int32}
    (ht : i < p.length → ∀ post' : Int32 → Prop, (t → post' 1) → (¬ t → post' 0) → wpX_takes post' () (nI (p.getD i 0)) x2 x3)
    (H1 : i < p.length → t → post (nI (2 ^ (i + 1)))) (H0 : ¬ (i < p.length ∧ t) → post 0) : wpX_after post u (nI (2 ^ i)) x2 x3 := by
  have hp' := hp
  obtain ⟨hpc, ha2⟩ := hp'
  have hl8 := hr.2.1
  unfold wpX_after
  refine pk_loop (σ := Int32) (fun f m x => wX_after_6 post (nI (2 ^ i)) x2 x3 u.1 u.2.1 u.2.2.1 u.2.2.2.1 u.2.2.2.2.1 u.2.2.2.2.2.1 u.2.2.2.2.2.2.1 u.2.2.2.2.2.2.2.1 u.2.2.2.2.2.2.2.2.1 u.2.2.2.2.2.2.2.2.2.1 u.2.2.2.2.2.2.2.2.2.2.1 u.2.2.2.2.2.2.2.2.2.2.2.1 u.2.2.2.2.2.2.2.2.2.2.2.2.1 u.2.2.2.2.2.2.2.2.2.2.2.2.2.1 u.2.2.2.2.2.2.2.2.2.2.2.2.2.2.1 u.2.2.2.2.2.2.2.2.2.2.2.2.2.2.2.1 u.2.2.2.2.2.2.2.2.2.2.2.2.2.2.2.2.1 u.2.2.2.2.2.2.2.2.2.2.2.2.2.2.2.2.2.1 u.2.2.2.2.2.2.2.2.2.2.2.2.2.2.2.2.2.2.1 u.2.2.2.2.2.2.2.2.2.2.2.2.2.2.2.2.2.2.2.1 u.2.2.2.2.2.2.2.2.2.2.2.2.2.2.2.2.2.2.2.2.1 u.2.2.2.2.2.2.2.2.2.2.2.2.2.2.2.2.2.2.2.2.2.1 u.2.2.2.2.2.2.2.2.2.2.2.2.2.2.2.2.2.2.2.2.2.2.1 u.2.2.2.2.2.2.2.2.2.2.2.2.2.2.2.2.2.2.2.2.2.2.2.1 u.2.2.2.2.2.2.2.2.2.2.2.2.2.2.2.2.2.2.2.2.2.2.2.2.1 u.2.2.2.2.2.2.2.2.2.2.2.2.2.2.2.2.2.2.2.2.2.2.2.2.2.1 u.2.2.2.2.2.2.2.2.2.2.2.2.2.2.2.2.2.2.2.2.2.2.2.2.2.2.1 u.2.2.2.2.2.2.2.2.2.2.2.2.2.2.2.2.2.2.2.2.2.2.2.2.2.2.2 f x (nI m)) (fun m x => (m ≤ i ∧ x = 0) ∨ (i < m ∧ ((t ∧ x = nI (2 ^ (i + 1))) ∨ (¬ t ∧ x = 0)))) p.length 0 0 (by omega) (Or.inl ⟨by omega, rfl⟩)
    (fun f x h => pk_le p.length p.length (fun _ => la_overGaps hp hr ?_) (fun z => absurd z (by omega)) hpc) (fun f m x hm h hw => pk_le p.length m (fun z => absurd z (by omega)) (fun _ => ?_) hpc)
  · rcases h with ⟨h1, h2⟩ | ⟨h1, ⟨h2, h3⟩ | ⟨h2, h3⟩⟩
    · subst h2
      exact H0 (fun z => by omega)
    · subst h3
      exact H1 h1 h2
    · subst h3
      exact H0 (fun z => h2 z.2)
  · by_cases e : m = i
    · subst e
      rcases h with ⟨h1, h2⟩ | ⟨h1, _⟩
      · subst h2
        refine br_t ((la_f1 m hi m hi).mpr rfl) ⟨pk_in m 8 (by omega), ?_⟩
        rw [nI_clamp (show m < 2 ^ 31 by omega), ha2 m hm]
        have h2 := la_ok_lt (la_get_ok hr hm)
        refine pk_eq (p.getD m 0) 2002 (fun z => absurd z (by omega)) (fun _ => ⟨pk_in m 8 (by omega), ht hm _ (fun z => br_f (by decide) (nm_r (Int32.zero_or) (nm_r (nI_1 m) ?_))) (fun z => br_t rfl (nm_r (Int32.or_zero) (nm_r (nI_1 m) (hw 0 (Or.inr ⟨by omega, Or.inr ⟨z, rfl⟩⟩)))))⟩)
        rw [la_f3 m (by omega)]
        exact hw _ (Or.inr ⟨by omega, Or.inl ⟨z, rfl⟩⟩)
      · omega
    · refine br_f (fun z => e ((la_f1 i hi m (by omega)).mp z)) (nm_r (nI_1 m) (hw x ?_))
      rcases h with ⟨h1, h2⟩ | ⟨h1, h2⟩
      · exact Or.inl ⟨by omega, h2⟩
      · exact Or.inr ⟨by omega, h2⟩
theorem la_names {post : Int32 → Prop} {u : St1} {p : List Nat} (hp : la_dr p u.2.1 u.2.2.2.2.2.2.2.2.2.1) (hr : la_row p) (H1 : post 1) (H0 : (∀ i, i < p.length → p.getD i 0 < 1000) → post 0) : wpX_namesNumbers post u := by
  obtain ⟨hpc, ha2⟩ := hp
  have hl8 := hr.2.1
  unfold wpX_namesNumbers
  obtain ⟨c, c1, c2, c3⟩ := la_find (fun i => decide (1000 ≤ p.getD i 0)) p.length
  refine pk_loop (σ := Unit) (fun f i _ => wX_namesNumbers_2 post u.1 u.2.1 u.2.2.1 u.2.2.2.1 u.2.2.2.2.1 u.2.2.2.2.2.1 u.2.2.2.2.2.2.1 u.2.2.2.2.2.2.2.1 u.2.2.2.2.2.2.2.2.1 u.2.2.2.2.2.2.2.2.2.1 u.2.2.2.2.2.2.2.2.2.2.1 u.2.2.2.2.2.2.2.2.2.2.2.1 u.2.2.2.2.2.2.2.2.2.2.2.2.1 u.2.2.2.2.2.2.2.2.2.2.2.2.2.1 u.2.2.2.2.2.2.2.2.2.2.2.2.2.2.1 u.2.2.2.2.2.2.2.2.2.2.2.2.2.2.2.1 u.2.2.2.2.2.2.2.2.2.2.2.2.2.2.2.2.1 u.2.2.2.2.2.2.2.2.2.2.2.2.2.2.2.2.2.1 u.2.2.2.2.2.2.2.2.2.2.2.2.2.2.2.2.2.2.1 u.2.2.2.2.2.2.2.2.2.2.2.2.2.2.2.2.2.2.2.1 u.2.2.2.2.2.2.2.2.2.2.2.2.2.2.2.2.2.2.2.2.1 u.2.2.2.2.2.2.2.2.2.2.2.2.2.2.2.2.2.2.2.2.2.1 u.2.2.2.2.2.2.2.2.2.2.2.2.2.2.2.2.2.2.2.2.2.2.1 u.2.2.2.2.2.2.2.2.2.2.2.2.2.2.2.2.2.2.2.2.2.2.2.1 u.2.2.2.2.2.2.2.2.2.2.2.2.2.2.2.2.2.2.2.2.2.2.2.2.1 u.2.2.2.2.2.2.2.2.2.2.2.2.2.2.2.2.2.2.2.2.2.2.2.2.2.1 u.2.2.2.2.2.2.2.2.2.2.2.2.2.2.2.2.2.2.2.2.2.2.2.2.2.2.1 u.2.2.2.2.2.2.2.2.2.2.2.2.2.2.2.2.2.2.2.2.2.2.2.2.2.2.2 f (nI i)) (fun _ _ => True) c 0 () (by omega) trivial
    (fun f _ _ => pk_le p.length c (fun z => H0 (fun i hi => ?_)) (fun z => ⟨pk_in c 8 (by omega), ?_⟩) hpc) (fun f i _ hi _ hw => pk_le p.length i (fun z => absurd z (by omega)) (fun _ => ⟨pk_in i 8 (by omega), ?_⟩) hpc)
  · have := of_decide_eq_false (c2 i (by omega))
    omega
  · have hc := of_decide_eq_true (c3 z)
    rw [nI_clamp (show c < 2 ^ 31 by omega), ha2 c z]
    exact la_isNumber (la_get_ok hr z) (fun y => absurd y (by omega)) (fun _ _ => br_f (by decide) H1)
  · have hc := of_decide_eq_false (c2 i hi)
    have hi' : i < p.length := by omega
    rw [nI_clamp (show i < 2 ^ 31 by omega), ha2 i hi']
    refine la_isNumber (la_get_ok hr hi') (fun y => br_t rfl ⟨pk_in i 8 (by omega), ?_⟩) (fun y _ => absurd y hc)
    exact pk_lt (p.getD i 0) 3000 (fun _ => nm_r (nI_1 i) (hw () trivial)) (fun z => absurd z (by omega))
/-- the first i items are alike -/
def la_mt (p x : List Nat) (i : Nat) : Prop := i ≤ p.length ∧ ∀ j, j < i → p.getD j 0 = x.getD j 0
theorem la_mt_s {p x : List Nat} {i : Nat} (h : la_mt p x i) (hi : i < p.length) (e : p.getD i 0 = x.getD i 0) : la_mt p x (i + 1) := by
  refine ⟨hi, fun j hj => ?_⟩
  by_cases z : j = i
  · rw [z]
    exact e
  · exact h.2 j (by omega)
theorem la_mt_n {p x : List Nat} {i : Nat} (h : ¬ (i < p.length ∧ p.getD i 0 = x.getD i 0)) : ¬ la_mt p x (i + 1) := fun z => h ⟨z.1, z.2 i (by omega)⟩
theorem la_mt_p {p x : List Nat} {i : Nat} (h : ¬ la_mt p x i) : ¬ la_mt p x (i + 1) := fun z => h ⟨by have := z.1; omega, fun j hj => z.2 j (by omega)⟩
theorem la_mt_e {p x : List Nat} (h : la_mt p x x.length) (e : p.length = x.length) : x = p := la_ext e.symm (fun i hi => (h.2 i hi).symm)
theorem la_shapeMayFit {post : Int32 → Prop} {u : St1} {n k s : Nat} {T : Nat → Nat} {X : Nat → List Nat} {S : Nat → Nat} {SL : Nat → List Nat} {p : List Nat} (hI : la_I n k T X S SL u) (hs : s < k) (hp : la_dr p u.2.1 u.2.2.2.2.2.2.2.2.2.1) (hr : la_row p)
    (H1 : SL s = p.map la_bl → post 1) (H0 : SL s ≠ p.map la_bl → post 0) : wpX_shapeMayFit post u (nI s) := by
  obtain ⟨⟨⟨hA1, hA2, hA3, hA4, hA5⟩, hln, hsh, hB, hC, hD⟩, hO⟩ := hI
  obtain ⟨ha7, ha8, _⟩ := hB.2.1 s hs
  have h8 := hA5 s hs
  have hl8 := hr.2.1
  have hml : (p.map la_bl).length = p.length := List.length_map _
  have hSb : ∀ i, i < (SL s).length → (SL s).getD i 0 ≤ 1000 := by
    obtain ⟨l, l1, l2⟩ := hO.2.1 s hs
    have e := (hA3 l l1).2.2.2
    rw [l2] at e
    rw [e]
    intro i hi
    rw [List.length_map] at hi
    rw [la_getD_map hi]
    unfold la_bl
    split <;> omega
  have hpc := hp.1
  unfold wpX_shapeMayFit
  refine la_overGaps hp hr ?_
  refine pk_loop (σ := Int32) (fun f i x => wX_shapeMayFit_8 post (nI s) u.1 u.2.1 u.2.2.1 u.2.2.2.1 u.2.2.2.2.1 u.2.2.2.2.2.1 u.2.2.2.2.2.2.1 u.2.2.2.2.2.2.2.1 u.2.2.2.2.2.2.2.2.1 u.2.2.2.2.2.2.2.2.2.1 u.2.2.2.2.2.2.2.2.2.2.1 u.2.2.2.2.2.2.2.2.2.2.2.1 u.2.2.2.2.2.2.2.2.2.2.2.2.1 u.2.2.2.2.2.2.2.2.2.2.2.2.2.1 u.2.2.2.2.2.2.2.2.2.2.2.2.2.2.1 u.2.2.2.2.2.2.2.2.2.2.2.2.2.2.2.1 u.2.2.2.2.2.2.2.2.2.2.2.2.2.2.2.2.1 u.2.2.2.2.2.2.2.2.2.2.2.2.2.2.2.2.2.1 u.2.2.2.2.2.2.2.2.2.2.2.2.2.2.2.2.2.2.1 u.2.2.2.2.2.2.2.2.2.2.2.2.2.2.2.2.2.2.2.1 u.2.2.2.2.2.2.2.2.2.2.2.2.2.2.2.2.2.2.2.2.1 u.2.2.2.2.2.2.2.2.2.2.2.2.2.2.2.2.2.2.2.2.2.1 u.2.2.2.2.2.2.2.2.2.2.2.2.2.2.2.2.2.2.2.2.2.2.1 u.2.2.2.2.2.2.2.2.2.2.2.2.2.2.2.2.2.2.2.2.2.2.2.1 u.2.2.2.2.2.2.2.2.2.2.2.2.2.2.2.2.2.2.2.2.2.2.2.2.1 u.2.2.2.2.2.2.2.2.2.2.2.2.2.2.2.2.2.2.2.2.2.2.2.2.2.1 u.2.2.2.2.2.2.2.2.2.2.2.2.2.2.2.2.2.2.2.2.2.2.2.2.2.2.1 u.2.2.2.2.2.2.2.2.2.2.2.2.2.2.2.2.2.2.2.2.2.2.2.2.2.2.2 f x (nI i)) (fun i x => (la_mt (p.map la_bl) (SL s) i ∧ x = nI (2 ^ i)) ∨ (¬ la_mt (p.map la_bl) (SL s) i ∧ x = 0)) (SL s).length 0 1 (by omega) (Or.inl ⟨⟨by omega, fun j h => absurd h (by omega)⟩, rfl⟩)
    (fun f x h => ⟨pk_in s 60 (by omega), ?_⟩) (fun f i x hi h hw => ⟨pk_in s 60 (by omega), ?_⟩)
  · rw [nI_clamp (show s < 2 ^ 31 by omega), ha7]
    refine pk_le (SL s).length (SL s).length (fun _ => ?_) (fun z => absurd z (by omega))
    rw [hpc]
    rcases h with ⟨h1, h2⟩ | ⟨h1, h2⟩
    · subst h2
      by_cases e : p.length = (SL s).length
      · exact br_t ((la_f1 _ (by omega) _ (by omega)).mpr e) (H1 (la_mt_e h1 (by rw [hml]; exact e)))
      · exact br_f (fun z => e ((la_f1 _ (by omega) _ (by omega)).mp z)) (H0 (fun z => e (by rw [z, hml])))
    · subst h2
      exact br_f (la_f2 _ (by omega)) (H0 (fun z => h1 (by rw [z]; exact ⟨Nat.le_refl _, fun _ _ => rfl⟩)))
  · rw [nI_clamp (show s < 2 ^ 31 by omega), ha7]
    refine pk_le (SL s).length i (fun z => absurd z (by omega)) (fun _ => ⟨pk_in (8 * s + i) 480 (by omega) (la_ix s i), ?_⟩)
    rw [pk_cl (8 * s + i) (la_ix s i), ha8 i hi]
    have hb := hSb i hi
    have go : ∀ z0 : Int32, (i < p.length → ∀ post' : Int32 → Prop, (la_bl (p.getD i 0) = (SL s).getD i 0 → post' 1) → (¬ la_bl (p.getD i 0) = (SL s).getD i 0 → post' 0) → wpX_takes post' () (nI (p.getD i 0)) (nI ((SL s).getD i 0)) z0) →
        wX_shapeMayFit_48 post (wX_shapeMayFit_8 post (nI s) u.1 u.2.1 u.2.2.1 u.2.2.2.1 u.2.2.2.2.1 u.2.2.2.2.2.1 u.2.2.2.2.2.2.1 u.2.2.2.2.2.2.2.1 u.2.2.2.2.2.2.2.2.1 u.2.2.2.2.2.2.2.2.2.1 u.2.2.2.2.2.2.2.2.2.2.1 u.2.2.2.2.2.2.2.2.2.2.2.1 u.2.2.2.2.2.2.2.2.2.2.2.2.1 u.2.2.2.2.2.2.2.2.2.2.2.2.2.1 u.2.2.2.2.2.2.2.2.2.2.2.2.2.2.1 u.2.2.2.2.2.2.2.2.2.2.2.2.2.2.2.1 u.2.2.2.2.2.2.2.2.2.2.2.2.2.2.2.2.1 u.2.2.2.2.2.2.2.2.2.2.2.2.2.2.2.2.2.1 u.2.2.2.2.2.2.2.2.2.2.2.2.2.2.2.2.2.2.1 u.2.2.2.2.2.2.2.2.2.2.2.2.2.2.2.2.2.2.2.1 u.2.2.2.2.2.2.2.2.2.2.2.2.2.2.2.2.2.2.2.2.1 u.2.2.2.2.2.2.2.2.2.2.2.2.2.2.2.2.2.2.2.2.2.1 u.2.2.2.2.2.2.2.2.2.2.2.2.2.2.2.2.2.2.2.2.2.2.1 u.2.2.2.2.2.2.2.2.2.2.2.2.2.2.2.2.2.2.2.2.2.2.2.1 u.2.2.2.2.2.2.2.2.2.2.2.2.2.2.2.2.2.2.2.2.2.2.2.2.1 u.2.2.2.2.2.2.2.2.2.2.2.2.2.2.2.2.2.2.2.2.2.2.2.2.2.1 u.2.2.2.2.2.2.2.2.2.2.2.2.2.2.2.2.2.2.2.2.2.2.2.2.2.2.1 u.2.2.2.2.2.2.2.2.2.2.2.2.2.2.2.2.2.2.2.2.2.2.2.2.2.2.2 f) (nI s) (nI i) z0 (nI ((SL s).getD i 0)) x u.1 u.2.1 u.2.2.1 u.2.2.2.1 u.2.2.2.2.1 u.2.2.2.2.2.1 u.2.2.2.2.2.2.1 u.2.2.2.2.2.2.2.1 u.2.2.2.2.2.2.2.2.1 u.2.2.2.2.2.2.2.2.2.1 u.2.2.2.2.2.2.2.2.2.2.1 u.2.2.2.2.2.2.2.2.2.2.2.1 u.2.2.2.2.2.2.2.2.2.2.2.2.1 u.2.2.2.2.2.2.2.2.2.2.2.2.2.1 u.2.2.2.2.2.2.2.2.2.2.2.2.2.2.1 u.2.2.2.2.2.2.2.2.2.2.2.2.2.2.2.1 u.2.2.2.2.2.2.2.2.2.2.2.2.2.2.2.2.1 u.2.2.2.2.2.2.2.2.2.2.2.2.2.2.2.2.2.1 u.2.2.2.2.2.2.2.2.2.2.2.2.2.2.2.2.2.2.1 u.2.2.2.2.2.2.2.2.2.2.2.2.2.2.2.2.2.2.2.1 u.2.2.2.2.2.2.2.2.2.2.2.2.2.2.2.2.2.2.2.2.1 u.2.2.2.2.2.2.2.2.2.2.2.2.2.2.2.2.2.2.2.2.2.1 u.2.2.2.2.2.2.2.2.2.2.2.2.2.2.2.2.2.2.2.2.2.2.1 u.2.2.2.2.2.2.2.2.2.2.2.2.2.2.2.2.2.2.2.2.2.2.2.1 u.2.2.2.2.2.2.2.2.2.2.2.2.2.2.2.2.2.2.2.2.2.2.2.2.1 u.2.2.2.2.2.2.2.2.2.2.2.2.2.2.2.2.2.2.2.2.2.2.2.2.2.1 u.2.2.2.2.2.2.2.2.2.2.2.2.2.2.2.2.2.2.2.2.2.2.2.2.2.2.1 u.2.2.2.2.2.2.2.2.2.2.2.2.2.2.2.2.2.2.2.2.2.2.2.2.2.2.2 := by
      intro z0 ht
      unfold wX_shapeMayFit_48
      rcases h with ⟨h1, h2⟩ | ⟨h1, h2⟩
      · subst h2
        refine la_after1 hp hr (by omega) ht (fun y1 y2 => nm_r (nI_1 i) (hw _ (Or.inl ⟨la_mt_s h1 (by omega) (by rw [la_getD_map y1]; exact y2), rfl⟩))) (fun y => nm_r (nI_1 i) (hw 0 (Or.inr ⟨la_mt_n (fun q => y ?_), rfl⟩)))
        have q1 : i < p.length := by
          have := q.1
          omega
        exact ⟨q1, by rw [← la_getD_map q1]; exact q.2⟩
      · subst h2
        exact la_after0 hp hr (nm_r (nI_1 i) (hw 0 (Or.inr ⟨la_mt_p h1, rfl⟩)))
    refine nm_e (pk_eq ((SL s).getD i 0) 1000 (fun z => go 1 (fun hi' post' q1 q0 => ?_)) (fun z => go 0 (fun hi' post' q1 q0 => ?_)))
    · have hgo := la_get_ok hr hi'
      rw [z] at q1 q0 ⊢
      exact la_takes1 hgo (fun y => q1 (la_bl_n y)) (fun y => q0 (fun e => y ((la_bl_eq hgo).mp e)))
    · have hgo := la_get_ok hr hi'
      refine la_takes0 hgo (by omega) (fun y => q1 ?_) (fun y => q0 (fun e => y ?_))
      · rw [← y, la_bl_w (by omega)]
      · unfold la_bl at e
        split at e <;> omega
theorem la_lineFits {post : Int32 → Prop} {u : St1} {M n k s l : Nat} {T : Nat → Nat} {X : Nat → List Nat} {S : Nat → Nat} {SL : Nat → List Nat} {p : List Nat} (hI : la_I1 M n k T X S SL u) (hl : l < n) (hs : S l = s) (hN : la_N S X SL s (l + 1) u.2.2.2.2.2.2.2.2.2.2.2.2.2.2.2.2.2.2.2.2.2.2.2.2.1) (hp : la_dr p u.2.1 u.2.2.2.2.2.2.2.2.2.1) (hr : la_row p)
    (H1 : X l = p → post 1) (H0 : X l ≠ p → post 0) : wpX_lineFits post u (nI s) := by
  obtain ⟨⟨hA1, hA2, hA3, hA4, hA5⟩, hln, hsh, hB, hC, hD⟩ := hI
  obtain ⟨hrl, hT, hsk, hSL⟩ := hA3 l hl
  rw [hs] at hsk hSL
  have hlen : (SL s).length = (X l).length := by
    rw [hSL, List.length_map]
  have hlen8 := hrl.2.1
  obtain ⟨ha7, ha8, _⟩ := hB.2.1 s hsk
  have hl8 := hr.2.1
  have hpc := hp.1
  unfold wpX_lineFits
  refine la_overGaps hp hr ?_
  refine pk_loop (σ := Int32) (fun f i x => wX_lineFits_8 post (nI s) u.1 u.2.1 u.2.2.1 u.2.2.2.1 u.2.2.2.2.1 u.2.2.2.2.2.1 u.2.2.2.2.2.2.1 u.2.2.2.2.2.2.2.1 u.2.2.2.2.2.2.2.2.1 u.2.2.2.2.2.2.2.2.2.1 u.2.2.2.2.2.2.2.2.2.2.1 u.2.2.2.2.2.2.2.2.2.2.2.1 u.2.2.2.2.2.2.2.2.2.2.2.2.1 u.2.2.2.2.2.2.2.2.2.2.2.2.2.1 u.2.2.2.2.2.2.2.2.2.2.2.2.2.2.1 u.2.2.2.2.2.2.2.2.2.2.2.2.2.2.2.1 u.2.2.2.2.2.2.2.2.2.2.2.2.2.2.2.2.1 u.2.2.2.2.2.2.2.2.2.2.2.2.2.2.2.2.2.1 u.2.2.2.2.2.2.2.2.2.2.2.2.2.2.2.2.2.2.1 u.2.2.2.2.2.2.2.2.2.2.2.2.2.2.2.2.2.2.2.1 u.2.2.2.2.2.2.2.2.2.2.2.2.2.2.2.2.2.2.2.2.1 u.2.2.2.2.2.2.2.2.2.2.2.2.2.2.2.2.2.2.2.2.2.1 u.2.2.2.2.2.2.2.2.2.2.2.2.2.2.2.2.2.2.2.2.2.2.1 u.2.2.2.2.2.2.2.2.2.2.2.2.2.2.2.2.2.2.2.2.2.2.2.1 u.2.2.2.2.2.2.2.2.2.2.2.2.2.2.2.2.2.2.2.2.2.2.2.2.1 u.2.2.2.2.2.2.2.2.2.2.2.2.2.2.2.2.2.2.2.2.2.2.2.2.2.1 u.2.2.2.2.2.2.2.2.2.2.2.2.2.2.2.2.2.2.2.2.2.2.2.2.2.2.1 u.2.2.2.2.2.2.2.2.2.2.2.2.2.2.2.2.2.2.2.2.2.2.2.2.2.2.2 f x (nI i)) (fun i x => (la_mt p (X l) i ∧ x = nI (2 ^ i)) ∨ (¬ la_mt p (X l) i ∧ x = 0)) (X l).length 0 1 (by omega) (Or.inl ⟨⟨by omega, fun j h => absurd h (by omega)⟩, rfl⟩)
    (fun f x h => ⟨pk_in s 60 (by omega), ?_⟩) (fun f i x hi h hw => ⟨pk_in s 60 (by omega), ?_⟩)
  · rw [nI_clamp (show s < 2 ^ 31 by omega), ha7, hlen]
    refine pk_le (X l).length (X l).length (fun _ => ?_) (fun z => absurd z (by omega))
    rw [hpc]
    rcases h with ⟨h1, h2⟩ | ⟨h1, h2⟩
    · subst h2
      by_cases e : p.length = (X l).length
      · exact br_t ((la_f1 _ (by omega) _ (by omega)).mpr e) (H1 (la_mt_e h1 e))
      · exact br_f (fun z => e ((la_f1 _ (by omega) _ (by omega)).mp z)) (H0 (fun z => e (by rw [z])))
    · subst h2
      exact br_f (la_f2 _ (by omega)) (H0 (fun z => h1 (by rw [z]; exact ⟨Nat.le_refl _, fun _ _ => rfl⟩)))
  · rw [nI_clamp (show s < 2 ^ 31 by omega), ha7, hlen]
    refine pk_le (X l).length i (fun z => absurd z (by omega)) (fun _ => ⟨pk_in (8 * s + i) 480 (by omega) (la_ix s i), ?_⟩)
    rw [pk_cl (8 * s + i) (la_ix s i), ha8 i (by omega)]
    have hgx := la_get_ok hrl hi
    have hgx2 := la_ok_lt hgx
    have hbl : (SL s).getD i 0 = la_bl ((X l).getD i 0) := by
      rw [hSL, la_getD_map hi]
    have go : wX_lineFits_56 post (wX_lineFits_8 post (nI s) u.1 u.2.1 u.2.2.1 u.2.2.2.1 u.2.2.2.2.1 u.2.2.2.2.2.1 u.2.2.2.2.2.2.1 u.2.2.2.2.2.2.2.1 u.2.2.2.2.2.2.2.2.1 u.2.2.2.2.2.2.2.2.2.1 u.2.2.2.2.2.2.2.2.2.2.1 u.2.2.2.2.2.2.2.2.2.2.2.1 u.2.2.2.2.2.2.2.2.2.2.2.2.1 u.2.2.2.2.2.2.2.2.2.2.2.2.2.1 u.2.2.2.2.2.2.2.2.2.2.2.2.2.2.1 u.2.2.2.2.2.2.2.2.2.2.2.2.2.2.2.1 u.2.2.2.2.2.2.2.2.2.2.2.2.2.2.2.2.1 u.2.2.2.2.2.2.2.2.2.2.2.2.2.2.2.2.2.1 u.2.2.2.2.2.2.2.2.2.2.2.2.2.2.2.2.2.2.1 u.2.2.2.2.2.2.2.2.2.2.2.2.2.2.2.2.2.2.2.1 u.2.2.2.2.2.2.2.2.2.2.2.2.2.2.2.2.2.2.2.2.1 u.2.2.2.2.2.2.2.2.2.2.2.2.2.2.2.2.2.2.2.2.2.1 u.2.2.2.2.2.2.2.2.2.2.2.2.2.2.2.2.2.2.2.2.2.2.1 u.2.2.2.2.2.2.2.2.2.2.2.2.2.2.2.2.2.2.2.2.2.2.2.1 u.2.2.2.2.2.2.2.2.2.2.2.2.2.2.2.2.2.2.2.2.2.2.2.2.1 u.2.2.2.2.2.2.2.2.2.2.2.2.2.2.2.2.2.2.2.2.2.2.2.2.2.1 u.2.2.2.2.2.2.2.2.2.2.2.2.2.2.2.2.2.2.2.2.2.2.2.2.2.2.1 u.2.2.2.2.2.2.2.2.2.2.2.2.2.2.2.2.2.2.2.2.2.2.2.2.2.2.2 f) (nI s) (nI i) (nI ((X l).getD i 0)) x u.1 u.2.1 u.2.2.1 u.2.2.2.1 u.2.2.2.2.1 u.2.2.2.2.2.1 u.2.2.2.2.2.2.1 u.2.2.2.2.2.2.2.1 u.2.2.2.2.2.2.2.2.1 u.2.2.2.2.2.2.2.2.2.1 u.2.2.2.2.2.2.2.2.2.2.1 u.2.2.2.2.2.2.2.2.2.2.2.1 u.2.2.2.2.2.2.2.2.2.2.2.2.1 u.2.2.2.2.2.2.2.2.2.2.2.2.2.1 u.2.2.2.2.2.2.2.2.2.2.2.2.2.2.1 u.2.2.2.2.2.2.2.2.2.2.2.2.2.2.2.1 u.2.2.2.2.2.2.2.2.2.2.2.2.2.2.2.2.1 u.2.2.2.2.2.2.2.2.2.2.2.2.2.2.2.2.2.1 u.2.2.2.2.2.2.2.2.2.2.2.2.2.2.2.2.2.2.1 u.2.2.2.2.2.2.2.2.2.2.2.2.2.2.2.2.2.2.2.1 u.2.2.2.2.2.2.2.2.2.2.2.2.2.2.2.2.2.2.2.2.1 u.2.2.2.2.2.2.2.2.2.2.2.2.2.2.2.2.2.2.2.2.2.1 u.2.2.2.2.2.2.2.2.2.2.2.2.2.2.2.2.2.2.2.2.2.2.1 u.2.2.2.2.2.2.2.2.2.2.2.2.2.2.2.2.2.2.2.2.2.2.2.1 u.2.2.2.2.2.2.2.2.2.2.2.2.2.2.2.2.2.2.2.2.2.2.2.2.1 u.2.2.2.2.2.2.2.2.2.2.2.2.2.2.2.2.2.2.2.2.2.2.2.2.2.1 u.2.2.2.2.2.2.2.2.2.2.2.2.2.2.2.2.2.2.2.2.2.2.2.2.2.2.1 u.2.2.2.2.2.2.2.2.2.2.2.2.2.2.2.2.2.2.2.2.2.2.2.2.2.2.2 := by
      unfold wX_lineFits_56
      rcases h with ⟨h1, h2⟩ | ⟨h1, h2⟩
      · subst h2
        exact la_after1 hp hr (by omega) (fun hi' post' q1 q0 => la_takes0 (la_get_ok hr hi') (by omega) q1 q0) (fun y1 y2 => nm_r (nI_1 i) (hw _ (Or.inl ⟨la_mt_s h1 y1 y2, rfl⟩))) (fun y => nm_r (nI_1 i) (hw 0 (Or.inr ⟨la_mt_n y, rfl⟩)))
      · subst h2
        exact la_after0 hp hr (nm_r (nI_1 i) (hw 0 (Or.inr ⟨la_mt_p h1, rfl⟩)))
    refine nm_e (pk_eq ((SL s).getD i 0) 1000 (fun z => ⟨pk_in i 8 (by omega), ?_⟩) (fun z => ?_) rfl rfl (by rw [hbl]; unfold la_bl; split <;> omega))
    · have hx : 1000 ≤ (X l).getD i 0 := by
        rw [hbl] at z
        exact (la_bl_eq hgx).mp z
      rw [nI_clamp (show i < 2 ^ 31 by omega), hN i (by omega) z, la_V_y hs, show (1000 : Int32) + nI ((X l).getD i 0 - 1000) = nI ((X l).getD i 0) from ?_]
      · exact go
      · show nI 1000 + nI _ = _
        rw [nI_add]
        congr 1
        omega
    · have hx : (X l).getD i 0 < 1000 := by
        rcases Nat.lt_or_ge ((X l).getD i 0) 1000 with y | y
        · exact y
        · rw [hbl, la_bl_n y] at z
          exact absurd rfl z
      rw [hbl, la_bl_w hx]
      exact go
theorem la_linesThatFit {post : Int64 → St1 → Prop} {u : St1} {M n k s : Nat} {T : Nat → Nat} {X : Nat → List Nat} {S : Nat → Nat} {SL : Nat → List Nat} {p : List Nat} (hI : la_I1 M n k T X S SL u) (hs : s < k) (hp : la_dr p u.2.1 u.2.2.2.2.2.2.2.2.2.1) (hr : la_row p)
    (H : ∀ w fr b17, (∀ j, j < 64 → la_bt w j = decide (j < n ∧ S j = s ∧ X j = p)) → post w (u.1, u.2.1, u.2.2.1, u.2.2.2.1, u.2.2.2.2.1, u.2.2.2.2.2.1, u.2.2.2.2.2.2.1, fr, u.2.2.2.2.2.2.2.2.1, u.2.2.2.2.2.2.2.2.2.1, u.2.2.2.2.2.2.2.2.2.2.1, u.2.2.2.2.2.2.2.2.2.2.2.1, u.2.2.2.2.2.2.2.2.2.2.2.2.1, u.2.2.2.2.2.2.2.2.2.2.2.2.2.1, u.2.2.2.2.2.2.2.2.2.2.2.2.2.2.1, u.2.2.2.2.2.2.2.2.2.2.2.2.2.2.2.1, u.2.2.2.2.2.2.2.2.2.2.2.2.2.2.2.2.1, u.2.2.2.2.2.2.2.2.2.2.2.2.2.2.2.2.2.1, u.2.2.2.2.2.2.2.2.2.2.2.2.2.2.2.2.2.2.1, u.2.2.2.2.2.2.2.2.2.2.2.2.2.2.2.2.2.2.2.1, u.2.2.2.2.2.2.2.2.2.2.2.2.2.2.2.2.2.2.2.2.1, u.2.2.2.2.2.2.2.2.2.2.2.2.2.2.2.2.2.2.2.2.2.1, u.2.2.2.2.2.2.2.2.2.2.2.2.2.2.2.2.2.2.2.2.2.2.1, u.2.2.2.2.2.2.2.2.2.2.2.2.2.2.2.2.2.2.2.2.2.2.2.1, b17, u.2.2.2.2.2.2.2.2.2.2.2.2.2.2.2.2.2.2.2.2.2.2.2.2.2.1, u.2.2.2.2.2.2.2.2.2.2.2.2.2.2.2.2.2.2.2.2.2.2.2.2.2.2.1, u.2.2.2.2.2.2.2.2.2.2.2.2.2.2.2.2.2.2.2.2.2.2.2.2.2.2.2)) : wpX_linesThatFit post u (nI s) := by
  have hI' := hI
  obtain ⟨⟨hA1, hA2, hA3, hA4, hA5⟩, hln, hsh, hB, hC, hD⟩ := hI'
  unfold wpX_linesThatFit
  refine la_clear (fun b17 g => ?_)
  refine pk_loop (σ := Int64 × Int32 × (Nat → Int32)) (fun f i st => wX_linesThatFit_9 post (nI s) f st.1 (nI i) u.1 u.2.1 u.2.2.1 u.2.2.2.1 u.2.2.2.2.1 u.2.2.2.2.2.1 u.2.2.2.2.2.2.1 (st.2.1) u.2.2.2.2.2.2.2.2.1 u.2.2.2.2.2.2.2.2.2.1 u.2.2.2.2.2.2.2.2.2.2.1 u.2.2.2.2.2.2.2.2.2.2.2.1 u.2.2.2.2.2.2.2.2.2.2.2.2.1 u.2.2.2.2.2.2.2.2.2.2.2.2.2.1 u.2.2.2.2.2.2.2.2.2.2.2.2.2.2.1 u.2.2.2.2.2.2.2.2.2.2.2.2.2.2.2.1 u.2.2.2.2.2.2.2.2.2.2.2.2.2.2.2.2.1 u.2.2.2.2.2.2.2.2.2.2.2.2.2.2.2.2.2.1 u.2.2.2.2.2.2.2.2.2.2.2.2.2.2.2.2.2.2.1 u.2.2.2.2.2.2.2.2.2.2.2.2.2.2.2.2.2.2.2.1 u.2.2.2.2.2.2.2.2.2.2.2.2.2.2.2.2.2.2.2.2.1 u.2.2.2.2.2.2.2.2.2.2.2.2.2.2.2.2.2.2.2.2.2.1 u.2.2.2.2.2.2.2.2.2.2.2.2.2.2.2.2.2.2.2.2.2.2.1 u.2.2.2.2.2.2.2.2.2.2.2.2.2.2.2.2.2.2.2.2.2.2.2.1 (st.2.2) u.2.2.2.2.2.2.2.2.2.2.2.2.2.2.2.2.2.2.2.2.2.2.2.2.2.1 u.2.2.2.2.2.2.2.2.2.2.2.2.2.2.2.2.2.2.2.2.2.2.2.2.2.2.1 u.2.2.2.2.2.2.2.2.2.2.2.2.2.2.2.2.2.2.2.2.2.2.2.2.2.2.2) (fun i st => (∀ j, j < 64 → la_bt st.1 j = decide (j < i ∧ S j = s ∧ X j = p)) ∧ la_N S X SL s i st.2.2) n 0 (0, u.2.2.2.2.2.2.2.1, b17) (by omega) ⟨fun j _ => by rw [la_bt_0]; exact (decide_eq_false (fun z => by omega)).symm, la_N_0 (hA5 s hs) g⟩
    (fun f st h => ?_) (fun f i st hi h hw => ?_)
  · obtain ⟨c, fr, c17⟩ := st
    exact pk_le n n (fun _ => H c fr c17 h.1) (fun z => absurd z (by omega)) hln
  · obtain ⟨c, fr, c17⟩ := st
    obtain ⟨h1, h2⟩ := h
    dsimp only at h1 h2 ⊢
    refine pk_le n i (fun z => absurd z (by omega)) (fun _ => ⟨pk_in i 60 (by omega), ?_⟩) hln
    have hsi := (hA3 i hi).2.2.1
    have hno : ¬ (S i = s ∧ X i = p) → ∀ j, j < 64 → la_bt c j = decide (j < i + 1 ∧ S j = s ∧ X j = p) := fun q j hj => by
      rw [h1 j hj]
      refine decide_eq_decide.mpr ⟨fun y => ⟨by omega, y.2⟩, fun y => ⟨?_, y.2⟩⟩
      by_cases e : j = i
      · rw [e] at y
        exact absurd y.2 q
      · have := y.1
        omega
    rw [nI_clamp (show i < 2 ^ 31 by omega), (hB.1 i hi).2]
    refine pk_eq (S i) s (fun z => ?_) (fun z => nm_r (nI_1 i) (hw (c, fr, c17) ⟨hno (fun y => z y.1), la_N_skip h2 z⟩))
    refine la_addLine (u := (u.1, u.2.1, u.2.2.1, u.2.2.2.1, u.2.2.2.2.1, u.2.2.2.2.2.1, u.2.2.2.2.2.2.1, fr, u.2.2.2.2.2.2.2.2.1, u.2.2.2.2.2.2.2.2.2.1, u.2.2.2.2.2.2.2.2.2.2.1, u.2.2.2.2.2.2.2.2.2.2.2.1, u.2.2.2.2.2.2.2.2.2.2.2.2.1, u.2.2.2.2.2.2.2.2.2.2.2.2.2.1, u.2.2.2.2.2.2.2.2.2.2.2.2.2.2.1, u.2.2.2.2.2.2.2.2.2.2.2.2.2.2.2.1, u.2.2.2.2.2.2.2.2.2.2.2.2.2.2.2.2.1, u.2.2.2.2.2.2.2.2.2.2.2.2.2.2.2.2.2.1, u.2.2.2.2.2.2.2.2.2.2.2.2.2.2.2.2.2.2.1, u.2.2.2.2.2.2.2.2.2.2.2.2.2.2.2.2.2.2.2.1, u.2.2.2.2.2.2.2.2.2.2.2.2.2.2.2.2.2.2.2.2.1, u.2.2.2.2.2.2.2.2.2.2.2.2.2.2.2.2.2.2.2.2.2.1, u.2.2.2.2.2.2.2.2.2.2.2.2.2.2.2.2.2.2.2.2.2.2.1, u.2.2.2.2.2.2.2.2.2.2.2.2.2.2.2.2.2.2.2.2.2.2.2.1, c17, u.2.2.2.2.2.2.2.2.2.2.2.2.2.2.2.2.2.2.2.2.2.2.2.2.2.1, u.2.2.2.2.2.2.2.2.2.2.2.2.2.2.2.2.2.2.2.2.2.2.2.2.2.2.1, u.2.2.2.2.2.2.2.2.2.2.2.2.2.2.2.2.2.2.2.2.2.2.2.2.2.2.2)) (la_I1_q (u := u) rfl hI) hi z h2 (fun fr' d17 g' => ?_)
    refine la_lineFits (u := (u.1, u.2.1, u.2.2.1, u.2.2.2.1, u.2.2.2.2.1, u.2.2.2.2.2.1, u.2.2.2.2.2.2.1, fr', u.2.2.2.2.2.2.2.2.1, u.2.2.2.2.2.2.2.2.2.1, u.2.2.2.2.2.2.2.2.2.2.1, u.2.2.2.2.2.2.2.2.2.2.2.1, u.2.2.2.2.2.2.2.2.2.2.2.2.1, u.2.2.2.2.2.2.2.2.2.2.2.2.2.1, u.2.2.2.2.2.2.2.2.2.2.2.2.2.2.1, u.2.2.2.2.2.2.2.2.2.2.2.2.2.2.2.1, u.2.2.2.2.2.2.2.2.2.2.2.2.2.2.2.2.1, u.2.2.2.2.2.2.2.2.2.2.2.2.2.2.2.2.2.1, u.2.2.2.2.2.2.2.2.2.2.2.2.2.2.2.2.2.2.1, u.2.2.2.2.2.2.2.2.2.2.2.2.2.2.2.2.2.2.2.1, u.2.2.2.2.2.2.2.2.2.2.2.2.2.2.2.2.2.2.2.2.1, u.2.2.2.2.2.2.2.2.2.2.2.2.2.2.2.2.2.2.2.2.2.1, u.2.2.2.2.2.2.2.2.2.2.2.2.2.2.2.2.2.2.2.2.2.2.1, u.2.2.2.2.2.2.2.2.2.2.2.2.2.2.2.2.2.2.2.2.2.2.2.1, d17, u.2.2.2.2.2.2.2.2.2.2.2.2.2.2.2.2.2.2.2.2.2.2.2.2.2.1, u.2.2.2.2.2.2.2.2.2.2.2.2.2.2.2.2.2.2.2.2.2.2.2.2.2.2.1, u.2.2.2.2.2.2.2.2.2.2.2.2.2.2.2.2.2.2.2.2.2.2.2.2.2.2.2)) (p := p) (la_I1_q (u := u) rfl hI) hi z g' hp hr (fun y => br_f (by decide) (nm_e (nm_r (nI_1 i) (hw (_, fr', d17) ⟨fun j hj => ?_, g'⟩)))) (fun y => br_t rfl (nm_r (Int64.or_zero) (nm_r (nI_1 i) (hw (c, fr', d17) ⟨hno (fun q => y q.2), g'⟩))))
    dsimp only
    rw [la_bt_or, la_bt_one (by omega), h1 j hj, ← Bool.decide_or]
    refine decide_eq_decide.mpr ⟨?_, fun q => ?_⟩
    · rintro (q | q)
      · exact ⟨by omega, q.2⟩
      · subst q
        exact ⟨by omega, z, y⟩
    · by_cases e : j = i
      · exact Or.inr e.symm
      · exact Or.inl ⟨by omega, q.2⟩
/-- the lines that fit -/
def la_ft (n : Nat) (X : Nat → List Nat) (p : List Nat) (w : Int64) : Prop := ∀ j, j < 64 → la_bt w j = decide (j < n ∧ X j = p)
theorem la_words {x p : List Nat} (e : x.map la_bl = p.map la_bl) (hw : ∀ i, i < p.length → p.getD i 0 < 1000) : x = p := by
  have hl : x.length = p.length := by
    have := congrArg List.length e
    rw [List.length_map, List.length_map] at this
    exact this
  refine la_ext hl (fun i hi => ?_)
  have h1 := la_getD_map hi
  have h2 := la_getD_map (x := p) (i := i) (by omega)
  have h3 := hw i (by omega)
  rw [e, h2, la_bl_w h3] at h1
  unfold la_bl at h1
  split at h1 <;> omega
theorem la_fit {post : St1 → Prop} {u : St1} {n k : Nat} {T : Nat → Nat} {X : Nat → List Nat} {S : Nat → Nat} {SL : Nat → List Nat} {p : List Nat} (hI : la_I n k T X S SL u) (hp : la_dr p u.2.1 u.2.2.2.2.2.2.2.2.2.1) (hr : la_row p) (hf : u.2.2.2.2.2.1 = 0 ∨ (¬ u.2.2.2.2.2.1 = 0 ∧ la_ft n X p u.2.2.2.2.2.2.1))
    (H : ∀ fi ft fr b17, ¬ fi = 0 → la_ft n X p ft → post (u.1, u.2.1, u.2.2.1, u.2.2.2.1, u.2.2.2.2.1, fi, ft, fr, u.2.2.2.2.2.2.2.2.1, u.2.2.2.2.2.2.2.2.2.1, u.2.2.2.2.2.2.2.2.2.2.1, u.2.2.2.2.2.2.2.2.2.2.2.1, u.2.2.2.2.2.2.2.2.2.2.2.2.1, u.2.2.2.2.2.2.2.2.2.2.2.2.2.1, u.2.2.2.2.2.2.2.2.2.2.2.2.2.2.1, u.2.2.2.2.2.2.2.2.2.2.2.2.2.2.2.1, u.2.2.2.2.2.2.2.2.2.2.2.2.2.2.2.2.1, u.2.2.2.2.2.2.2.2.2.2.2.2.2.2.2.2.2.1, u.2.2.2.2.2.2.2.2.2.2.2.2.2.2.2.2.2.2.1, u.2.2.2.2.2.2.2.2.2.2.2.2.2.2.2.2.2.2.2.1, u.2.2.2.2.2.2.2.2.2.2.2.2.2.2.2.2.2.2.2.2.1, u.2.2.2.2.2.2.2.2.2.2.2.2.2.2.2.2.2.2.2.2.2.1, u.2.2.2.2.2.2.2.2.2.2.2.2.2.2.2.2.2.2.2.2.2.2.1, u.2.2.2.2.2.2.2.2.2.2.2.2.2.2.2.2.2.2.2.2.2.2.2.1, b17, u.2.2.2.2.2.2.2.2.2.2.2.2.2.2.2.2.2.2.2.2.2.2.2.2.2.1, u.2.2.2.2.2.2.2.2.2.2.2.2.2.2.2.2.2.2.2.2.2.2.2.2.2.2.1, u.2.2.2.2.2.2.2.2.2.2.2.2.2.2.2.2.2.2.2.2.2.2.2.2.2.2.2)) : wpX_fit post u := by
  have hI' := hI
  obtain ⟨⟨⟨hA1, hA2, hA3, hA4, hA5⟩, hln, hsh, hB, hC, hD⟩, hO⟩ := hI'
  have hl1 := hr.1
  have hl8 := hr.2.1
  unfold wpX_fit
  rcases hf with hf | ⟨hf, hft⟩
  · have go : ∀ x1 : Int32, (¬ x1 = 0 → ∀ i, i < p.length → p.getD i 0 < 1000) → ∃ f, wX_fit_33 post x1 f 0 u.1 u.2.1 u.2.2.1 u.2.2.2.1 u.2.2.2.2.1 (1) (0) u.2.2.2.2.2.2.2.1 u.2.2.2.2.2.2.2.2.1 u.2.2.2.2.2.2.2.2.2.1 u.2.2.2.2.2.2.2.2.2.2.1 u.2.2.2.2.2.2.2.2.2.2.2.1 u.2.2.2.2.2.2.2.2.2.2.2.2.1 u.2.2.2.2.2.2.2.2.2.2.2.2.2.1 u.2.2.2.2.2.2.2.2.2.2.2.2.2.2.1 u.2.2.2.2.2.2.2.2.2.2.2.2.2.2.2.1 u.2.2.2.2.2.2.2.2.2.2.2.2.2.2.2.2.1 u.2.2.2.2.2.2.2.2.2.2.2.2.2.2.2.2.2.1 u.2.2.2.2.2.2.2.2.2.2.2.2.2.2.2.2.2.2.1 u.2.2.2.2.2.2.2.2.2.2.2.2.2.2.2.2.2.2.2.1 u.2.2.2.2.2.2.2.2.2.2.2.2.2.2.2.2.2.2.2.2.1 u.2.2.2.2.2.2.2.2.2.2.2.2.2.2.2.2.2.2.2.2.2.1 u.2.2.2.2.2.2.2.2.2.2.2.2.2.2.2.2.2.2.2.2.2.2.1 u.2.2.2.2.2.2.2.2.2.2.2.2.2.2.2.2.2.2.2.2.2.2.2.1 u.2.2.2.2.2.2.2.2.2.2.2.2.2.2.2.2.2.2.2.2.2.2.2.2.1 u.2.2.2.2.2.2.2.2.2.2.2.2.2.2.2.2.2.2.2.2.2.2.2.2.2.1 u.2.2.2.2.2.2.2.2.2.2.2.2.2.2.2.2.2.2.2.2.2.2.2.2.2.2.1 u.2.2.2.2.2.2.2.2.2.2.2.2.2.2.2.2.2.2.2.2.2.2.2.2.2.2.2 := by
      intro x1 hx1
      refine pk_loop (σ := Int64 × Int32 × (Nat → Int32)) (fun f s st => wX_fit_33 post x1 f (nI s) u.1 u.2.1 u.2.2.1 u.2.2.2.1 u.2.2.2.2.1 (1) (st.1) (st.2.1) u.2.2.2.2.2.2.2.2.1 u.2.2.2.2.2.2.2.2.2.1 u.2.2.2.2.2.2.2.2.2.2.1 u.2.2.2.2.2.2.2.2.2.2.2.1 u.2.2.2.2.2.2.2.2.2.2.2.2.1 u.2.2.2.2.2.2.2.2.2.2.2.2.2.1 u.2.2.2.2.2.2.2.2.2.2.2.2.2.2.1 u.2.2.2.2.2.2.2.2.2.2.2.2.2.2.2.1 u.2.2.2.2.2.2.2.2.2.2.2.2.2.2.2.2.1 u.2.2.2.2.2.2.2.2.2.2.2.2.2.2.2.2.2.1 u.2.2.2.2.2.2.2.2.2.2.2.2.2.2.2.2.2.2.1 u.2.2.2.2.2.2.2.2.2.2.2.2.2.2.2.2.2.2.2.1 u.2.2.2.2.2.2.2.2.2.2.2.2.2.2.2.2.2.2.2.2.1 u.2.2.2.2.2.2.2.2.2.2.2.2.2.2.2.2.2.2.2.2.2.1 u.2.2.2.2.2.2.2.2.2.2.2.2.2.2.2.2.2.2.2.2.2.2.1 u.2.2.2.2.2.2.2.2.2.2.2.2.2.2.2.2.2.2.2.2.2.2.2.1 (st.2.2) u.2.2.2.2.2.2.2.2.2.2.2.2.2.2.2.2.2.2.2.2.2.2.2.2.2.1 u.2.2.2.2.2.2.2.2.2.2.2.2.2.2.2.2.2.2.2.2.2.2.2.2.2.2.1 u.2.2.2.2.2.2.2.2.2.2.2.2.2.2.2.2.2.2.2.2.2.2.2.2.2.2.2) (fun s st => ∀ j, j < 64 → la_bt st.1 j = decide (j < n ∧ S j < s ∧ X j = p)) k 0 (0, u.2.2.2.2.2.2.2.1, u.2.2.2.2.2.2.2.2.2.2.2.2.2.2.2.2.2.2.2.2.2.2.2.2.1) (by omega) (fun j _ => by rw [la_bt_0]; exact (decide_eq_false (fun z => by omega)).symm)
        (fun f st h => ?_) (fun f s st hs h hw => ?_)
      · obtain ⟨c, fr, c17⟩ := st
        dsimp only at h ⊢
        refine pk_le k k (fun _ => H 1 c fr c17 (by decide) (fun j hj => ?_)) (fun z => absurd z (by omega)) hsh
        rw [h j hj]
        exact decide_eq_decide.mpr ⟨fun y => ⟨y.1, y.2.2⟩, fun y => ⟨y.1, (hA3 j y.1).2.2.1, y.2⟩⟩
      · obtain ⟨c, fr, c17⟩ := st
        dsimp only at h ⊢
        refine pk_le k s (fun z => absurd z (by omega)) (fun _ => pk_le p.length 0 (fun z => absurd z (by omega)) (fun _ => ?_) hp.1) hsh
        refine la_shapeMayFit (u := (u.1, u.2.1, u.2.2.1, u.2.2.2.1, u.2.2.2.2.1, 1, c, fr, u.2.2.2.2.2.2.2.2.1, u.2.2.2.2.2.2.2.2.2.1, u.2.2.2.2.2.2.2.2.2.2.1, u.2.2.2.2.2.2.2.2.2.2.2.1, u.2.2.2.2.2.2.2.2.2.2.2.2.1, u.2.2.2.2.2.2.2.2.2.2.2.2.2.1, u.2.2.2.2.2.2.2.2.2.2.2.2.2.2.1, u.2.2.2.2.2.2.2.2.2.2.2.2.2.2.2.1, u.2.2.2.2.2.2.2.2.2.2.2.2.2.2.2.2.1, u.2.2.2.2.2.2.2.2.2.2.2.2.2.2.2.2.2.1, u.2.2.2.2.2.2.2.2.2.2.2.2.2.2.2.2.2.2.1, u.2.2.2.2.2.2.2.2.2.2.2.2.2.2.2.2.2.2.2.1, u.2.2.2.2.2.2.2.2.2.2.2.2.2.2.2.2.2.2.2.2.1, u.2.2.2.2.2.2.2.2.2.2.2.2.2.2.2.2.2.2.2.2.2.1, u.2.2.2.2.2.2.2.2.2.2.2.2.2.2.2.2.2.2.2.2.2.2.1, u.2.2.2.2.2.2.2.2.2.2.2.2.2.2.2.2.2.2.2.2.2.2.2.1, c17, u.2.2.2.2.2.2.2.2.2.2.2.2.2.2.2.2.2.2.2.2.2.2.2.2.2.1, u.2.2.2.2.2.2.2.2.2.2.2.2.2.2.2.2.2.2.2.2.2.2.2.2.2.2.1, u.2.2.2.2.2.2.2.2.2.2.2.2.2.2.2.2.2.2.2.2.2.2.2.2.2.2.2)) (p := p) (n := n) (k := k) (T := T) (X := X) (S := S) (SL := SL) hI hs hp hr (fun z => br_f (by decide) (br_c (fun z1 => ?_) (fun z1 => ⟨pk_in s 60 (by omega), nm_e (nm_r (nI_1 s) (hw (_, fr, c17) (fun j hj => ?_)))⟩))) (fun z => br_t rfl (nm_r (nI_1 s) (hw (c, fr, c17) (fun j hj => ?_))))
        · refine la_linesThatFit (u := (u.1, u.2.1, u.2.2.1, u.2.2.2.1, u.2.2.2.2.1, 1, c, fr, u.2.2.2.2.2.2.2.2.1, u.2.2.2.2.2.2.2.2.2.1, u.2.2.2.2.2.2.2.2.2.2.1, u.2.2.2.2.2.2.2.2.2.2.2.1, u.2.2.2.2.2.2.2.2.2.2.2.2.1, u.2.2.2.2.2.2.2.2.2.2.2.2.2.1, u.2.2.2.2.2.2.2.2.2.2.2.2.2.2.1, u.2.2.2.2.2.2.2.2.2.2.2.2.2.2.2.1, u.2.2.2.2.2.2.2.2.2.2.2.2.2.2.2.2.1, u.2.2.2.2.2.2.2.2.2.2.2.2.2.2.2.2.2.1, u.2.2.2.2.2.2.2.2.2.2.2.2.2.2.2.2.2.2.1, u.2.2.2.2.2.2.2.2.2.2.2.2.2.2.2.2.2.2.2.1, u.2.2.2.2.2.2.2.2.2.2.2.2.2.2.2.2.2.2.2.2.1, u.2.2.2.2.2.2.2.2.2.2.2.2.2.2.2.2.2.2.2.2.2.1, u.2.2.2.2.2.2.2.2.2.2.2.2.2.2.2.2.2.2.2.2.2.2.1, u.2.2.2.2.2.2.2.2.2.2.2.2.2.2.2.2.2.2.2.2.2.2.2.1, c17, u.2.2.2.2.2.2.2.2.2.2.2.2.2.2.2.2.2.2.2.2.2.2.2.2.2.1, u.2.2.2.2.2.2.2.2.2.2.2.2.2.2.2.2.2.2.2.2.2.2.2.2.2.2.1, u.2.2.2.2.2.2.2.2.2.2.2.2.2.2.2.2.2.2.2.2.2.2.2.2.2.2.2)) (p := p) (n := n) (k := k) (T := T) (X := X) (S := S) (SL := SL) hI.1 hs hp hr (fun w fr' d17 g => nm_e (nm_r (nI_1 s) (hw (_, fr', d17) (fun j hj => ?_))))
          dsimp only
          rw [la_bt_or, h j hj, g j hj, ← Bool.decide_or]
          refine decide_eq_decide.mpr ⟨?_, fun q => ?_⟩
          · rintro (q | q)
            · exact ⟨q.1, by omega, q.2.2⟩
            · exact ⟨q.1, by omega, q.2.2⟩
          · by_cases e : S j = s
            · exact Or.inr ⟨q.1, e, q.2.2⟩
            · exact Or.inl ⟨q.1, by omega, q.2.2⟩
        · dsimp only
          rw [nI_clamp (show s < 2 ^ 31 by omega), la_bt_or, h j hj, (hB.2.1 s hs).2.2 j hj, ← Bool.decide_or]
          refine decide_eq_decide.mpr ⟨?_, fun q => ?_⟩
          · rintro (q | q)
            · exact ⟨q.1, by omega, q.2.2⟩
            · refine ⟨q.1, by omega, la_words ?_ (hx1 z1)⟩
              rw [← z, ← (hA3 j q.1).2.2.2, q.2]
          · by_cases e : S j = s
            · exact Or.inr ⟨q.1, e⟩
            · exact Or.inl ⟨q.1, by omega, q.2.2⟩
        · dsimp only
          rw [h j hj]
          refine decide_eq_decide.mpr ⟨fun q => ⟨q.1, by omega, q.2.2⟩, fun q => ⟨q.1, ?_, q.2.2⟩⟩
          by_cases e : S j = s
          · refine absurd ?_ z
            rw [← e, (hA3 j q.1).2.2.2, q.2.2]
          · omega
    refine br_t hf (la_names (u := (u.1, u.2.1, u.2.2.1, u.2.2.2.1, u.2.2.2.2.1, 1, 0, u.2.2.2.2.2.2.2.1, u.2.2.2.2.2.2.2.2.1, u.2.2.2.2.2.2.2.2.2.1, u.2.2.2.2.2.2.2.2.2.2.1, u.2.2.2.2.2.2.2.2.2.2.2.1, u.2.2.2.2.2.2.2.2.2.2.2.2.1, u.2.2.2.2.2.2.2.2.2.2.2.2.2.1, u.2.2.2.2.2.2.2.2.2.2.2.2.2.2.1, u.2.2.2.2.2.2.2.2.2.2.2.2.2.2.2.1, u.2.2.2.2.2.2.2.2.2.2.2.2.2.2.2.2.1, u.2.2.2.2.2.2.2.2.2.2.2.2.2.2.2.2.2.1, u.2.2.2.2.2.2.2.2.2.2.2.2.2.2.2.2.2.2.1, u.2.2.2.2.2.2.2.2.2.2.2.2.2.2.2.2.2.2.2.1, u.2.2.2.2.2.2.2.2.2.2.2.2.2.2.2.2.2.2.2.2.1, u.2.2.2.2.2.2.2.2.2.2.2.2.2.2.2.2.2.2.2.2.2.1, u.2.2.2.2.2.2.2.2.2.2.2.2.2.2.2.2.2.2.2.2.2.2.1, u.2.2.2.2.2.2.2.2.2.2.2.2.2.2.2.2.2.2.2.2.2.2.2.1, u.2.2.2.2.2.2.2.2.2.2.2.2.2.2.2.2.2.2.2.2.2.2.2.2.1, u.2.2.2.2.2.2.2.2.2.2.2.2.2.2.2.2.2.2.2.2.2.2.2.2.2.1, u.2.2.2.2.2.2.2.2.2.2.2.2.2.2.2.2.2.2.2.2.2.2.2.2.2.2.1, u.2.2.2.2.2.2.2.2.2.2.2.2.2.2.2.2.2.2.2.2.2.2.2.2.2.2.2)) (p := p) hp hr (br_f (by decide) (go 0 (fun z => absurd rfl z))) (fun hw => br_t rfl (go 1 (fun _ => hw))))
  · exact br_f hf (H u.2.2.2.2.2.1 u.2.2.2.2.2.2.1 u.2.2.2.2.2.2.2.1 u.2.2.2.2.2.2.2.2.2.2.2.2.2.2.2.2.2.2.2.2.2.2.2.2.1 hf hft)
/-- a state in which the pattern p may be asked -/
def la_F (n k : Nat) (T : Nat → Nat) (X : Nat → List Nat) (S : Nat → Nat) (SL : Nat → List Nat) (p : List Nat) (u : St1) : Prop :=
  la_I n k T X S SL u ∧ la_dr p u.2.1 u.2.2.2.2.2.2.2.2.2.1 ∧ (u.2.2.2.2.2.1 = 0 ∨ (¬ u.2.2.2.2.2.1 = 0 ∧ la_ft n X p u.2.2.2.2.2.2.1))
theorem la_next {post : Int32 → St1 → Prop} {u : St1} {n k b : Nat} {T : Nat → Nat} {X : Nat → List Nat} {S : Nat → Nat} {SL : Nat → List Nat} {p : List Nat} {a : Int32} (hF : la_F n k T X S SL p u) (hr : la_row p) (hb : b ≤ 60) (ha : (0 ≤ a ∧ a < 60 ∧ a + 1 = nI b) ∨ (¬ 0 ≤ a ∧ b = 0))
    (H1 : ∀ f u', la_F n k T X S SL p u' → b ≤ f → f < n → X f = p → (∀ j, b ≤ j → j < f → X j ≠ p) → post (nI f) u') (H0 : ∀ u', la_F n k T X S SL p u' → (∀ j, b ≤ j → j < n → X j ≠ p) → post (-2) u') : wpX_next post u a := by
  obtain ⟨hI, hp, hf⟩ := hF
  have hA1 := hI.1.1.1
  unfold wpX_next
  refine la_fit hI hp hr hf (fun fi ft fr b17 g1 g2 => ?_)
  have hF' : la_F n k T X S SL p (u.1, u.2.1, u.2.2.1, u.2.2.2.1, u.2.2.2.2.1, fi, ft, fr, u.2.2.2.2.2.2.2.2.1, u.2.2.2.2.2.2.2.2.2.1, u.2.2.2.2.2.2.2.2.2.2.1, u.2.2.2.2.2.2.2.2.2.2.2.1, u.2.2.2.2.2.2.2.2.2.2.2.2.1, u.2.2.2.2.2.2.2.2.2.2.2.2.2.1, u.2.2.2.2.2.2.2.2.2.2.2.2.2.2.1, u.2.2.2.2.2.2.2.2.2.2.2.2.2.2.2.1, u.2.2.2.2.2.2.2.2.2.2.2.2.2.2.2.2.1, u.2.2.2.2.2.2.2.2.2.2.2.2.2.2.2.2.2.1, u.2.2.2.2.2.2.2.2.2.2.2.2.2.2.2.2.2.2.1, u.2.2.2.2.2.2.2.2.2.2.2.2.2.2.2.2.2.2.2.1, u.2.2.2.2.2.2.2.2.2.2.2.2.2.2.2.2.2.2.2.2.1, u.2.2.2.2.2.2.2.2.2.2.2.2.2.2.2.2.2.2.2.2.2.1, u.2.2.2.2.2.2.2.2.2.2.2.2.2.2.2.2.2.2.2.2.2.2.1, u.2.2.2.2.2.2.2.2.2.2.2.2.2.2.2.2.2.2.2.2.2.2.2.1, b17, u.2.2.2.2.2.2.2.2.2.2.2.2.2.2.2.2.2.2.2.2.2.2.2.2.2.1, u.2.2.2.2.2.2.2.2.2.2.2.2.2.2.2.2.2.2.2.2.2.2.2.2.2.2.1, u.2.2.2.2.2.2.2.2.2.2.2.2.2.2.2.2.2.2.2.2.2.2.2.2.2.2.2) := ⟨hI, hp, Or.inr ⟨g1, g2⟩⟩
  have go : wX_next_26 post (nI b) u.1 u.2.1 u.2.2.1 u.2.2.2.1 u.2.2.2.2.1 (fi) (ft) (fr) u.2.2.2.2.2.2.2.2.1 u.2.2.2.2.2.2.2.2.2.1 u.2.2.2.2.2.2.2.2.2.2.1 u.2.2.2.2.2.2.2.2.2.2.2.1 u.2.2.2.2.2.2.2.2.2.2.2.2.1 u.2.2.2.2.2.2.2.2.2.2.2.2.2.1 u.2.2.2.2.2.2.2.2.2.2.2.2.2.2.1 u.2.2.2.2.2.2.2.2.2.2.2.2.2.2.2.1 u.2.2.2.2.2.2.2.2.2.2.2.2.2.2.2.2.1 u.2.2.2.2.2.2.2.2.2.2.2.2.2.2.2.2.2.1 u.2.2.2.2.2.2.2.2.2.2.2.2.2.2.2.2.2.2.1 u.2.2.2.2.2.2.2.2.2.2.2.2.2.2.2.2.2.2.2.1 u.2.2.2.2.2.2.2.2.2.2.2.2.2.2.2.2.2.2.2.2.1 u.2.2.2.2.2.2.2.2.2.2.2.2.2.2.2.2.2.2.2.2.2.1 u.2.2.2.2.2.2.2.2.2.2.2.2.2.2.2.2.2.2.2.2.2.2.1 u.2.2.2.2.2.2.2.2.2.2.2.2.2.2.2.2.2.2.2.2.2.2.2.1 (b17) u.2.2.2.2.2.2.2.2.2.2.2.2.2.2.2.2.2.2.2.2.2.2.2.2.2.1 u.2.2.2.2.2.2.2.2.2.2.2.2.2.2.2.2.2.2.2.2.2.2.2.2.2.2.1 u.2.2.2.2.2.2.2.2.2.2.2.2.2.2.2.2.2.2.2.2.2.2.2.2.2.2.2 := by
    unfold wX_next_26 wpX_below
    refine la_lowest (fun f h1 h2 h3 => ?_)
    have hbit : ∀ j, j < 64 → la_bt (ft &&& (((1 : Int64) <<< ((nI b).toInt64 &&& 63)) - 1 ^^^ (-1))) j = decide (b ≤ j ∧ j < n ∧ X j = p) := fun j hj => by
      rw [la_bt_and, la_msk b (by omega) j hj, g2 j hj, ← Bool.decide_and]
      exact decide_eq_decide.mpr ⟨fun y => ⟨y.2, y.1⟩, fun y => ⟨y.2, y.1⟩⟩
    have hno : ∀ j, b ≤ j → j < f → j < n → X j ≠ p := fun j j1 j2 j3 e => by
      have := h2 j j2
      rw [hbit j (by omega)] at this
      exact of_decide_eq_false this ⟨j1, j3, e⟩
    refine pk_le n f (fun z => H0 _ hF' (fun j j1 j2 => hno j j1 (by omega) j2)) (fun z => ?_) hI.1.2.1
    have hf := h3 (by omega)
    rw [hbit f (by omega)] at hf
    have hf' := of_decide_eq_true hf
    exact H1 f _ hF' hf'.1 z hf'.2.2 (fun j j1 j2 => hno j j1 j2 (by omega))
  rcases ha with ⟨a1, a2, a3⟩ | ⟨a1, a2⟩
  · refine br_t a1 (br_t a2 ?_)
    rw [a3]
    exact go
  · rw [a2] at go
    exact br_f a1 go
theorem la_fittingGroups {post : Int32 → St1 → Prop} {u : St1} {n k l : Nat} {T : Nat → Nat} {X : Nat → List Nat} {S : Nat → Nat} {SL : Nat → List Nat} {p : List Nat} (hF : la_F n k T X S SL p u) (hr : la_row p) (hl : l < n) (hX : X l = p)
    (H : ∀ u', la_F n k T X S SL p u' → post 1 u') : wpX_fittingGroups post u := by
  obtain ⟨hI, hp, hf⟩ := hF
  have hI' := hI
  obtain ⟨⟨⟨hA1, hA2, hA3, hA4, hA5⟩, hln, hsh, hB, hC, hD⟩, hO⟩ := hI'
  have hsl := (hA3 l hl).2.2.1
  unfold wpX_fittingGroups
  refine la_fit hI hp hr hf (fun fi ft fr b17 g1 g2 => ?_)
  have hF' : la_F n k T X S SL p (u.1, u.2.1, u.2.2.1, u.2.2.2.1, u.2.2.2.2.1, fi, ft, fr, u.2.2.2.2.2.2.2.2.1, u.2.2.2.2.2.2.2.2.2.1, u.2.2.2.2.2.2.2.2.2.2.1, u.2.2.2.2.2.2.2.2.2.2.2.1, u.2.2.2.2.2.2.2.2.2.2.2.2.1, u.2.2.2.2.2.2.2.2.2.2.2.2.2.1, u.2.2.2.2.2.2.2.2.2.2.2.2.2.2.1, u.2.2.2.2.2.2.2.2.2.2.2.2.2.2.2.1, u.2.2.2.2.2.2.2.2.2.2.2.2.2.2.2.2.1, u.2.2.2.2.2.2.2.2.2.2.2.2.2.2.2.2.2.1, u.2.2.2.2.2.2.2.2.2.2.2.2.2.2.2.2.2.2.1, u.2.2.2.2.2.2.2.2.2.2.2.2.2.2.2.2.2.2.2.1, u.2.2.2.2.2.2.2.2.2.2.2.2.2.2.2.2.2.2.2.2.1, u.2.2.2.2.2.2.2.2.2.2.2.2.2.2.2.2.2.2.2.2.2.1, u.2.2.2.2.2.2.2.2.2.2.2.2.2.2.2.2.2.2.2.2.2.2.1, u.2.2.2.2.2.2.2.2.2.2.2.2.2.2.2.2.2.2.2.2.2.2.2.1, b17, u.2.2.2.2.2.2.2.2.2.2.2.2.2.2.2.2.2.2.2.2.2.2.2.2.2.1, u.2.2.2.2.2.2.2.2.2.2.2.2.2.2.2.2.2.2.2.2.2.2.2.2.2.2.1, u.2.2.2.2.2.2.2.2.2.2.2.2.2.2.2.2.2.2.2.2.2.2.2.2.2.2.2) := ⟨hI, hp, Or.inr ⟨g1, g2⟩⟩
  refine pk_loop (σ := Nat) (fun f s m => wX_fittingGroups_8 post u.1 u.2.1 u.2.2.1 u.2.2.2.1 u.2.2.2.2.1 (fi) (ft) (fr) u.2.2.2.2.2.2.2.2.1 u.2.2.2.2.2.2.2.2.2.1 u.2.2.2.2.2.2.2.2.2.2.1 u.2.2.2.2.2.2.2.2.2.2.2.1 u.2.2.2.2.2.2.2.2.2.2.2.2.1 u.2.2.2.2.2.2.2.2.2.2.2.2.2.1 u.2.2.2.2.2.2.2.2.2.2.2.2.2.2.1 u.2.2.2.2.2.2.2.2.2.2.2.2.2.2.2.1 u.2.2.2.2.2.2.2.2.2.2.2.2.2.2.2.2.1 u.2.2.2.2.2.2.2.2.2.2.2.2.2.2.2.2.2.1 u.2.2.2.2.2.2.2.2.2.2.2.2.2.2.2.2.2.2.1 u.2.2.2.2.2.2.2.2.2.2.2.2.2.2.2.2.2.2.2.1 u.2.2.2.2.2.2.2.2.2.2.2.2.2.2.2.2.2.2.2.2.1 u.2.2.2.2.2.2.2.2.2.2.2.2.2.2.2.2.2.2.2.2.2.1 u.2.2.2.2.2.2.2.2.2.2.2.2.2.2.2.2.2.2.2.2.2.2.1 u.2.2.2.2.2.2.2.2.2.2.2.2.2.2.2.2.2.2.2.2.2.2.2.1 (b17) u.2.2.2.2.2.2.2.2.2.2.2.2.2.2.2.2.2.2.2.2.2.2.2.2.2.1 u.2.2.2.2.2.2.2.2.2.2.2.2.2.2.2.2.2.2.2.2.2.2.2.2.2.2.1 u.2.2.2.2.2.2.2.2.2.2.2.2.2.2.2.2.2.2.2.2.2.2.2.2.2.2.2 f (nI m) (nI s)) (fun s m => m = if S l < s then 1 else 0) k 0 0 (by omega) rfl
    (fun f m h => ?_) (fun f s m hs h hw => ?_)
  · rw [if_pos hsl] at h
    subst h
    exact pk_le k k (fun _ => H _ hF') (fun z => absurd z (by omega)) hsh
  · refine pk_le k s (fun z => absurd z (by omega)) (fun _ => ⟨pk_in s 60 (by omega), ?_⟩) hsh
    rw [nI_clamp (show s < 2 ^ 31 by omega)]
    by_cases e : S l = s
    · refine br_f (fun z => (la_and0 _ _).mp z l (by omega) ⟨?_, ?_⟩) (nm_r (nI_1 m) (nm_r (nI_1 s) (hw (m + 1) ?_)))
      · rw [g2 l (by omega)]
        exact decide_eq_true ⟨hl, hX⟩
      · rw [(hB.2.1 s hs).2.2 l (by omega)]
        exact decide_eq_true ⟨hl, e⟩
      · rw [if_neg (by omega)] at h
        rw [if_pos (by omega), h]
    · refine br_t ((la_and0 _ _).mpr (fun j hj y => ?_)) (nm_r (Int32.add_zero _) (nm_r (nI_1 s) (hw m ?_)))
      · rw [g2 j hj, (hB.2.1 s hs).2.2 j hj] at y
        have y1 := of_decide_eq_true y.1
        have y2 := of_decide_eq_true y.2
        have e1 := (hA3 j y1.1).2.2.2
        have e2 := (hA3 l hl).2.2.2
        rw [y1.2, ← hX, ← e2] at e1
        exact e ((hA4 _ _ (hA3 j y1.1).2.2.1 hsl e1).symm.trans y2.2)
      · rw [h]
        by_cases q : S l < s
        · rw [if_pos q, if_pos (by omega)]
        · rw [if_neg q, if_neg (by omega)]
end
section
/-! methods that change the archive -/
theorem la_dr_add {d : List Nat} {c : Int32} {a : Nat → Int32} {x : Nat} (h : la_dr d c a) : la_dr (d ++ [x]) (nI (d.length + 1)) (upd a d.length (nI x)) := by
  obtain ⟨h1, h2⟩ := h
  have hl : (d ++ [x]).length = d.length + 1 := by simp
  refine ⟨by rw [hl], fun i hi => ?_⟩
  rw [la_getD hi]
  rw [hl] at hi
  by_cases e : i = d.length
  · subst e
    rw [pk_us, List.getElem_append_right (Nat.le_refl _)]
    simp
  · rw [pk_un e, h2 i (by omega), la_getD (show i < d.length by omega), List.getElem_append_left (by omega)]
theorem la_item {post : Int32 → St1 → Prop} {u : St1} {d : List Nat} {x : Nat} (hd : la_dr d u.1 u.2.2.2.2.2.2.2.2.1) (hl : d.length < 8) (hx : la_ok x)
    (H : ∀ c b, la_dr (d ++ [x]) c b → post (nI (d.length + 1)) (c, u.2.1, u.2.2.1, u.2.2.2.1, u.2.2.2.2.1, u.2.2.2.2.2.1, u.2.2.2.2.2.2.1, u.2.2.2.2.2.2.2.1, b, u.2.2.2.2.2.2.2.2.2.1, u.2.2.2.2.2.2.2.2.2.2.1, u.2.2.2.2.2.2.2.2.2.2.2.1, u.2.2.2.2.2.2.2.2.2.2.2.2.1, u.2.2.2.2.2.2.2.2.2.2.2.2.2.1, u.2.2.2.2.2.2.2.2.2.2.2.2.2.2.1, u.2.2.2.2.2.2.2.2.2.2.2.2.2.2.2.1, u.2.2.2.2.2.2.2.2.2.2.2.2.2.2.2.2.1, u.2.2.2.2.2.2.2.2.2.2.2.2.2.2.2.2.2.1, u.2.2.2.2.2.2.2.2.2.2.2.2.2.2.2.2.2.2.1, u.2.2.2.2.2.2.2.2.2.2.2.2.2.2.2.2.2.2.2.1, u.2.2.2.2.2.2.2.2.2.2.2.2.2.2.2.2.2.2.2.2.1, u.2.2.2.2.2.2.2.2.2.2.2.2.2.2.2.2.2.2.2.2.2.1, u.2.2.2.2.2.2.2.2.2.2.2.2.2.2.2.2.2.2.2.2.2.2.1, u.2.2.2.2.2.2.2.2.2.2.2.2.2.2.2.2.2.2.2.2.2.2.2.1, u.2.2.2.2.2.2.2.2.2.2.2.2.2.2.2.2.2.2.2.2.2.2.2.2.1, u.2.2.2.2.2.2.2.2.2.2.2.2.2.2.2.2.2.2.2.2.2.2.2.2.2.1, u.2.2.2.2.2.2.2.2.2.2.2.2.2.2.2.2.2.2.2.2.2.2.2.2.2.2.1, u.2.2.2.2.2.2.2.2.2.2.2.2.2.2.2.2.2.2.2.2.2.2.2.2.2.2.2)) : wpX_item post u (nI x) := by
  have hdc := hd.1
  unfold wpX_item
  refine la_isItem hx (br_f (by decide) ?_)
  rw [hdc]
  refine pk_lt d.length 8 (fun _ => ⟨pk_in d.length 8 hl, nm_e (nm_r (nI_1 d.length) ?_)⟩) (fun z => absurd z (by omega))
  rw [nI_clamp (show d.length < 2 ^ 31 by omega)]
  exact H _ _ (la_dr_add hd)
theorem la_isPart {post : Int32 → Prop} {x : Nat} (hx : la_ok x) (H : post 1) : wpX_isPart post () (nI x) := by
  unfold wpX_isPart
  exact la_isItem hx (br_f (by decide) H)
theorem la_partQ {post : Int32 → St1 → Prop} {u : St1} {d : List Nat} {x : Nat} (hd : la_dr d u.2.1 u.2.2.2.2.2.2.2.2.2.1) (hl : d.length < 8) (hx : la_ok x)
    (H : ∀ c b, la_dr (d ++ [x]) c b → post (nI (d.length + 1)) (u.1, c, u.2.2.1, u.2.2.2.1, u.2.2.2.2.1, 0, u.2.2.2.2.2.2.1, u.2.2.2.2.2.2.2.1, u.2.2.2.2.2.2.2.2.1, b, u.2.2.2.2.2.2.2.2.2.2.1, u.2.2.2.2.2.2.2.2.2.2.2.1, u.2.2.2.2.2.2.2.2.2.2.2.2.1, u.2.2.2.2.2.2.2.2.2.2.2.2.2.1, u.2.2.2.2.2.2.2.2.2.2.2.2.2.2.1, u.2.2.2.2.2.2.2.2.2.2.2.2.2.2.2.1, u.2.2.2.2.2.2.2.2.2.2.2.2.2.2.2.2.1, u.2.2.2.2.2.2.2.2.2.2.2.2.2.2.2.2.2.1, u.2.2.2.2.2.2.2.2.2.2.2.2.2.2.2.2.2.2.1, u.2.2.2.2.2.2.2.2.2.2.2.2.2.2.2.2.2.2.2.1, u.2.2.2.2.2.2.2.2.2.2.2.2.2.2.2.2.2.2.2.2.1, u.2.2.2.2.2.2.2.2.2.2.2.2.2.2.2.2.2.2.2.2.2.1, u.2.2.2.2.2.2.2.2.2.2.2.2.2.2.2.2.2.2.2.2.2.2.1, u.2.2.2.2.2.2.2.2.2.2.2.2.2.2.2.2.2.2.2.2.2.2.2.1, u.2.2.2.2.2.2.2.2.2.2.2.2.2.2.2.2.2.2.2.2.2.2.2.2.1, u.2.2.2.2.2.2.2.2.2.2.2.2.2.2.2.2.2.2.2.2.2.2.2.2.2.1, u.2.2.2.2.2.2.2.2.2.2.2.2.2.2.2.2.2.2.2.2.2.2.2.2.2.2.1, u.2.2.2.2.2.2.2.2.2.2.2.2.2.2.2.2.2.2.2.2.2.2.2.2.2.2.2)) : wpX_part post u (nI x) := by
  have hdc := hd.1
  unfold wpX_part
  refine la_isPart hx (br_f (by decide) ?_)
  rw [hdc]
  refine pk_lt d.length 8 (fun _ => ⟨pk_in d.length 8 hl, nm_e (nm_r (nI_1 d.length) ?_)⟩) (fun z => absurd z (by omega))
  rw [nI_clamp (show d.length < 2 ^ 31 by omega)]
  exact H _ _ (la_dr_add hd)
theorem la_blank {post : Int32 → St1 → Prop} {u : St1} (H : post u.2.1 (u.1, 0, u.2.2.1, u.2.2.2.1, u.2.2.2.2.1, 0, u.2.2.2.2.2.2.1, u.2.2.2.2.2.2.2.1, u.2.2.2.2.2.2.2.2.1, u.2.2.2.2.2.2.2.2.2.1, u.2.2.2.2.2.2.2.2.2.2.1, u.2.2.2.2.2.2.2.2.2.2.2.1, u.2.2.2.2.2.2.2.2.2.2.2.2.1, u.2.2.2.2.2.2.2.2.2.2.2.2.2.1, u.2.2.2.2.2.2.2.2.2.2.2.2.2.2.1, u.2.2.2.2.2.2.2.2.2.2.2.2.2.2.2.1, u.2.2.2.2.2.2.2.2.2.2.2.2.2.2.2.2.1, u.2.2.2.2.2.2.2.2.2.2.2.2.2.2.2.2.2.1, u.2.2.2.2.2.2.2.2.2.2.2.2.2.2.2.2.2.2.1, u.2.2.2.2.2.2.2.2.2.2.2.2.2.2.2.2.2.2.2.1, u.2.2.2.2.2.2.2.2.2.2.2.2.2.2.2.2.2.2.2.2.1, u.2.2.2.2.2.2.2.2.2.2.2.2.2.2.2.2.2.2.2.2.2.1, u.2.2.2.2.2.2.2.2.2.2.2.2.2.2.2.2.2.2.2.2.2.2.1, u.2.2.2.2.2.2.2.2.2.2.2.2.2.2.2.2.2.2.2.2.2.2.2.1, u.2.2.2.2.2.2.2.2.2.2.2.2.2.2.2.2.2.2.2.2.2.2.2.2.1, u.2.2.2.2.2.2.2.2.2.2.2.2.2.2.2.2.2.2.2.2.2.2.2.2.2.1, u.2.2.2.2.2.2.2.2.2.2.2.2.2.2.2.2.2.2.2.2.2.2.2.2.2.2.1, u.2.2.2.2.2.2.2.2.2.2.2.2.2.2.2.2.2.2.2.2.2.2.2.2.2.2.2)) : wpX_blank post u := by
  unfold wpX_blank
  exact H
theorem la_write {post : Int32 → St1 → Prop} {u : St1} {n k t : Nat} {T : Nat → Nat} {X : Nat → List Nat} {S : Nat → Nat} {SL : Nat → List Nat} {d : List Nat} (hI : la_I n k T X S SL u) (hd : la_row d) (hr : la_dr d u.1 u.2.2.2.2.2.2.2.2.1) (hn : n < 60) (ht : t ≤ 1000) (hT : 0 < n → T (n - 1) ≤ t)
    (H : ∀ k' SL' s u', la_I (n + 1) k' (la_p T n t) (la_p X n d) (la_p S n s) SL' u' → ((k' = k ∧ s < k) ∨ (k' = k + 1 ∧ s = k)) → u'.1 = 0 → post (nI n) u') : wpX_write post u (nI t) := by
  have hln := hI.1.2.1
  have hl1 := hd.1
  have hl8 := hd.2.1
  have go : wX_write_35 post (nI t) u.1 u.2.1 u.2.2.1 u.2.2.2.1 u.2.2.2.2.1 u.2.2.2.2.2.1 u.2.2.2.2.2.2.1 u.2.2.2.2.2.2.2.1 u.2.2.2.2.2.2.2.2.1 u.2.2.2.2.2.2.2.2.2.1 u.2.2.2.2.2.2.2.2.2.2.1 u.2.2.2.2.2.2.2.2.2.2.2.1 u.2.2.2.2.2.2.2.2.2.2.2.2.1 u.2.2.2.2.2.2.2.2.2.2.2.2.2.1 u.2.2.2.2.2.2.2.2.2.2.2.2.2.2.1 u.2.2.2.2.2.2.2.2.2.2.2.2.2.2.2.1 u.2.2.2.2.2.2.2.2.2.2.2.2.2.2.2.2.1 u.2.2.2.2.2.2.2.2.2.2.2.2.2.2.2.2.2.1 u.2.2.2.2.2.2.2.2.2.2.2.2.2.2.2.2.2.2.1 u.2.2.2.2.2.2.2.2.2.2.2.2.2.2.2.2.2.2.2.1 u.2.2.2.2.2.2.2.2.2.2.2.2.2.2.2.2.2.2.2.2.1 u.2.2.2.2.2.2.2.2.2.2.2.2.2.2.2.2.2.2.2.2.2.1 u.2.2.2.2.2.2.2.2.2.2.2.2.2.2.2.2.2.2.2.2.2.2.1 u.2.2.2.2.2.2.2.2.2.2.2.2.2.2.2.2.2.2.2.2.2.2.2.1 u.2.2.2.2.2.2.2.2.2.2.2.2.2.2.2.2.2.2.2.2.2.2.2.2.1 u.2.2.2.2.2.2.2.2.2.2.2.2.2.2.2.2.2.2.2.2.2.2.2.2.2.1 u.2.2.2.2.2.2.2.2.2.2.2.2.2.2.2.2.2.2.2.2.2.2.2.2.2.2.1 u.2.2.2.2.2.2.2.2.2.2.2.2.2.2.2.2.2.2.2.2.2.2.2.2.2.2.2 := by
    unfold wX_write_35
    refine br_f (by rw [hr.1]; exact nI_ne0 (by omega) (by omega)) (pk_lt n 60 (fun _ => ?_) (fun z => absurd z (by omega)) hln)
    exact la_writeDraft hI hd hr hn ht (fun k' SL' s u' q1 q2 q3 => H k' SL' s _ q1 q2 rfl)
  unfold wpX_write
  refine br_f (nI_pos (by omega)) (pk_lt 1000 t (fun z => absurd z (by omega)) (fun _ => pk_le n 0 (fun _ => go) (fun z => ⟨pk_in (n - 1) 60 (by omega) (by rw [hln]; exact la_m1 z), ?_⟩) hln))
  rw [hln, pk_cl (n - 1) (la_m1 z), (hI.1.2.2.2.1.1 (n - 1) (by omega)).1]
  have := hT z
  rw [hln] at go
  exact pk_le (T (n - 1)) t (fun _ => go) (fun y => absurd y (by omega))
theorem la_I_0 {T : Nat → Nat} {X : Nat → List Nat} {S : Nat → Nat} {SL : Nat → List Nat} {u : St1} {b : Nat → Int64} (hb : ∀ w, w < 24 → b w = 0) :
    la_I 0 0 T X S SL (u.1, u.2.1, 0, 0, nI 1, 0, u.2.2.2.2.2.2.1, u.2.2.2.2.2.2.2.1, u.2.2.2.2.2.2.2.2.1, u.2.2.2.2.2.2.2.2.2.1, u.2.2.2.2.2.2.2.2.2.2.1, u.2.2.2.2.2.2.2.2.2.2.2.1, upd u.2.2.2.2.2.2.2.2.2.2.2.2.1 0 0, u.2.2.2.2.2.2.2.2.2.2.2.2.2.1, u.2.2.2.2.2.2.2.2.2.2.2.2.2.2.1, u.2.2.2.2.2.2.2.2.2.2.2.2.2.2.2.1, u.2.2.2.2.2.2.2.2.2.2.2.2.2.2.2.2.1, u.2.2.2.2.2.2.2.2.2.2.2.2.2.2.2.2.2.1, b, upd u.2.2.2.2.2.2.2.2.2.2.2.2.2.2.2.2.2.2.2.1 0 (-1), upd u.2.2.2.2.2.2.2.2.2.2.2.2.2.2.2.2.2.2.2.2.1 0 (-1), upd u.2.2.2.2.2.2.2.2.2.2.2.2.2.2.2.2.2.2.2.2.2.1 0 (-1), upd u.2.2.2.2.2.2.2.2.2.2.2.2.2.2.2.2.2.2.2.2.2.2.1 0 (-1), u.2.2.2.2.2.2.2.2.2.2.2.2.2.2.2.2.2.2.2.2.2.2.2.1, u.2.2.2.2.2.2.2.2.2.2.2.2.2.2.2.2.2.2.2.2.2.2.2.2.1, u.2.2.2.2.2.2.2.2.2.2.2.2.2.2.2.2.2.2.2.2.2.2.2.2.2.1, u.2.2.2.2.2.2.2.2.2.2.2.2.2.2.2.2.2.2.2.2.2.2.2.2.2.2.1, u.2.2.2.2.2.2.2.2.2.2.2.2.2.2.2.2.2.2.2.2.2.2.2.2.2.2.2) := by
  refine ⟨⟨⟨by omega, by omega, fun l h => absurd h (by omega), fun s t h => absurd h (by omega), fun s h => absurd h (by omega)⟩, rfl, rfl, ⟨fun l h => absurd h (by omega), fun s h => absurd h (by omega), fun w hw j hj => ?_⟩, ⟨⟨fun _ => 0, rfl, fun l hl => ?_, fun l h => absurd h (by omega)⟩, fun s h => absurd h (by omega)⟩, ⟨1, fun _ => [], by omega, rfl, ⟨fun _ => 0, fun _ => 0, ?_⟩, fun c hc => ?_, fun s h => absurd h (by omega)⟩⟩, ⟨by omega, fun s h => absurd h (by omega), fun l h => absurd h (by omega)⟩⟩
  · dsimp only
    rw [hb w hw, la_bt_0]
    exact (decide_eq_false (fun z => by omega)).symm
  · have : l = 0 := by omega
    subst this
    exact ⟨pk_us (f := u.2.2.2.2.2.2.2.2.2.2.2.2.1) (k := 0) (x := 0), by omega, by omega⟩
  · refine ⟨by omega, rfl, fun c c0 c1 => absurd c1 (by omega), fun p hp => ?_, fun c d hc hd _ => by omega⟩
    have : p = 0 := by omega
    subst this
    exact Or.inl ⟨pk_us (f := u.2.2.2.2.2.2.2.2.2.2.2.2.2.2.2.2.2.2.2.2.1) (k := 0) (x := -1), fun c c0 c1 => absurd c1 (by omega)⟩
  · have : c = 0 := by omega
    subst this
    exact Or.inl (pk_us (f := u.2.2.2.2.2.2.2.2.2.2.2.2.2.2.2.2.2.2.2.2.2.2.1) (k := 0) (x := -1))
theorem la_countBelow {post : Int32 → Prop} {u : St1} {n : Nat} {x : Int32} (hn : u.2.2.1 = nI n) (hb : n ≤ 60) (H : ∀ g, g ≤ n → post (nI g)) : wpX_countBelow post u x := by
  unfold wpX_countBelow
  show ∃ f, wX_countBelow_7 post x u.1 u.2.1 u.2.2.1 u.2.2.2.1 u.2.2.2.2.1 u.2.2.2.2.2.1 u.2.2.2.2.2.2.1 u.2.2.2.2.2.2.2.1 u.2.2.2.2.2.2.2.2.1 u.2.2.2.2.2.2.2.2.2.1 u.2.2.2.2.2.2.2.2.2.2.1 u.2.2.2.2.2.2.2.2.2.2.2.1 u.2.2.2.2.2.2.2.2.2.2.2.2.1 u.2.2.2.2.2.2.2.2.2.2.2.2.2.1 u.2.2.2.2.2.2.2.2.2.2.2.2.2.2.1 u.2.2.2.2.2.2.2.2.2.2.2.2.2.2.2.1 u.2.2.2.2.2.2.2.2.2.2.2.2.2.2.2.2.1 u.2.2.2.2.2.2.2.2.2.2.2.2.2.2.2.2.2.1 u.2.2.2.2.2.2.2.2.2.2.2.2.2.2.2.2.2.2.1 u.2.2.2.2.2.2.2.2.2.2.2.2.2.2.2.2.2.2.2.1 u.2.2.2.2.2.2.2.2.2.2.2.2.2.2.2.2.2.2.2.2.1 u.2.2.2.2.2.2.2.2.2.2.2.2.2.2.2.2.2.2.2.2.2.1 u.2.2.2.2.2.2.2.2.2.2.2.2.2.2.2.2.2.2.2.2.2.2.1 u.2.2.2.2.2.2.2.2.2.2.2.2.2.2.2.2.2.2.2.2.2.2.2.1 u.2.2.2.2.2.2.2.2.2.2.2.2.2.2.2.2.2.2.2.2.2.2.2.2.1 u.2.2.2.2.2.2.2.2.2.2.2.2.2.2.2.2.2.2.2.2.2.2.2.2.2.1 u.2.2.2.2.2.2.2.2.2.2.2.2.2.2.2.2.2.2.2.2.2.2.2.2.2.2.1 u.2.2.2.2.2.2.2.2.2.2.2.2.2.2.2.2.2.2.2.2.2.2.2.2.2.2.2 f 0 u.2.2.1
  rw [hn]
  refine loop_m (σ := Nat × Nat) (fun f st => wX_countBelow_7 post x u.1 u.2.1 (nI n) u.2.2.2.1 u.2.2.2.2.1 u.2.2.2.2.2.1 u.2.2.2.2.2.2.1 u.2.2.2.2.2.2.2.1 u.2.2.2.2.2.2.2.2.1 u.2.2.2.2.2.2.2.2.2.1 u.2.2.2.2.2.2.2.2.2.2.1 u.2.2.2.2.2.2.2.2.2.2.2.1 u.2.2.2.2.2.2.2.2.2.2.2.2.1 u.2.2.2.2.2.2.2.2.2.2.2.2.2.1 u.2.2.2.2.2.2.2.2.2.2.2.2.2.2.1 u.2.2.2.2.2.2.2.2.2.2.2.2.2.2.2.1 u.2.2.2.2.2.2.2.2.2.2.2.2.2.2.2.2.1 u.2.2.2.2.2.2.2.2.2.2.2.2.2.2.2.2.2.1 u.2.2.2.2.2.2.2.2.2.2.2.2.2.2.2.2.2.2.1 u.2.2.2.2.2.2.2.2.2.2.2.2.2.2.2.2.2.2.2.1 u.2.2.2.2.2.2.2.2.2.2.2.2.2.2.2.2.2.2.2.2.1 u.2.2.2.2.2.2.2.2.2.2.2.2.2.2.2.2.2.2.2.2.2.1 u.2.2.2.2.2.2.2.2.2.2.2.2.2.2.2.2.2.2.2.2.2.2.1 u.2.2.2.2.2.2.2.2.2.2.2.2.2.2.2.2.2.2.2.2.2.2.2.1 u.2.2.2.2.2.2.2.2.2.2.2.2.2.2.2.2.2.2.2.2.2.2.2.2.1 u.2.2.2.2.2.2.2.2.2.2.2.2.2.2.2.2.2.2.2.2.2.2.2.2.2.1 u.2.2.2.2.2.2.2.2.2.2.2.2.2.2.2.2.2.2.2.2.2.2.2.2.2.2.1 u.2.2.2.2.2.2.2.2.2.2.2.2.2.2.2.2.2.2.2.2.2.2.2.2.2.2.2 f (nI st.1) (nI st.2)) (fun st => st.1 ≤ st.2 ∧ st.2 ≤ n) (fun st => st.2 - st.1) (fun f st h hw => ?_) (0, n) ⟨by omega, by omega⟩
  obtain ⟨lo, hi⟩ := st
  dsimp only at h hw ⊢
  have hm : (nI lo + nI hi) >>> ((1 : Int32) &&& 31) = nI ((lo + hi) / 2) := by
    rw [nI_add]
    exact pk_shrN (by omega) _ 1 (by decide)
  refine pk_le hi lo (fun z => H lo (by omega)) (fun z => nm_r hm ⟨pk_in ((lo + hi) / 2) 60 (by omega), br_c (fun _ => ?_) (fun _ => nm_r (nI_1 _) ?_)⟩)
  · exact hw (lo, (lo + hi) / 2) ⟨by dsimp only; omega, by dsimp only; omega⟩ (by dsimp only; omega)
  · exact hw ((lo + hi) / 2 + 1, hi) ⟨by dsimp only; omega, by dsimp only; omega⟩ (by dsimp only; omega)
/-- the rests hold the lines Y with the times U -/
def la_re (c : Nat) (Y : Nat → List Nat) (U : Nat → Nat) (a18 a19 a20 : Nat → Int32) : Prop := ∀ j, j < c → a19 j = nI (Y j).length ∧ a20 j = nI (U j) ∧ ∀ i, i < (Y j).length → a18 (8 * j + i) = nI ((Y j).getD i 0)
theorem la_expire131 {post : Int32 → St1 → Prop} {v : St1} {g c t : Nat} {Y : Nat → List Nat} {U : Nat → Nat} {T0 : Nat → Nat} {X0 : Nat → List Nat} {S0 : Nat → Nat} {SL0 : Nat → List Nat} (hc : c ≤ 60) (hI : la_I 0 0 T0 X0 S0 SL0 v) (hY : ∀ j, j < c → la_row (Y j)) (hU : ∀ j, j < c → U j ≤ t) (ht : t ≤ 1000)
    (hR : la_re c Y U v.2.2.2.2.2.2.2.2.2.2.2.2.2.2.2.2.2.2.2.2.2.2.2.2.2.1 v.2.2.2.2.2.2.2.2.2.2.2.2.2.2.2.2.2.2.2.2.2.2.2.2.2.2.1 v.2.2.2.2.2.2.2.2.2.2.2.2.2.2.2.2.2.2.2.2.2.2.2.2.2.2.2) (h17 : v.2.2.2.2.2.2.2.2.2.2.2.2.2.2.2.2.2.2.2.2.2.2.2.2.1 0 = 0)
    (H : ∀ k T X S SL u', la_I c k T X S SL u' → (∀ l, l < c → T l ≤ t) → u'.1 = 0 → post (nI g) u') : ∃ f, wX_expire_131 post (nI g) (nI c) f 0 v.1 v.2.1 v.2.2.1 v.2.2.2.1 v.2.2.2.2.1 v.2.2.2.2.2.1 v.2.2.2.2.2.2.1 v.2.2.2.2.2.2.2.1 v.2.2.2.2.2.2.2.2.1 v.2.2.2.2.2.2.2.2.2.1 v.2.2.2.2.2.2.2.2.2.2.1 v.2.2.2.2.2.2.2.2.2.2.2.1 v.2.2.2.2.2.2.2.2.2.2.2.2.1 v.2.2.2.2.2.2.2.2.2.2.2.2.2.1 v.2.2.2.2.2.2.2.2.2.2.2.2.2.2.1 v.2.2.2.2.2.2.2.2.2.2.2.2.2.2.2.1 v.2.2.2.2.2.2.2.2.2.2.2.2.2.2.2.2.1 v.2.2.2.2.2.2.2.2.2.2.2.2.2.2.2.2.2.1 v.2.2.2.2.2.2.2.2.2.2.2.2.2.2.2.2.2.2.1 v.2.2.2.2.2.2.2.2.2.2.2.2.2.2.2.2.2.2.2.1 v.2.2.2.2.2.2.2.2.2.2.2.2.2.2.2.2.2.2.2.2.1 v.2.2.2.2.2.2.2.2.2.2.2.2.2.2.2.2.2.2.2.2.2.1 v.2.2.2.2.2.2.2.2.2.2.2.2.2.2.2.2.2.2.2.2.2.2.1 v.2.2.2.2.2.2.2.2.2.2.2.2.2.2.2.2.2.2.2.2.2.2.2.1 v.2.2.2.2.2.2.2.2.2.2.2.2.2.2.2.2.2.2.2.2.2.2.2.2.1 v.2.2.2.2.2.2.2.2.2.2.2.2.2.2.2.2.2.2.2.2.2.2.2.2.2.1 v.2.2.2.2.2.2.2.2.2.2.2.2.2.2.2.2.2.2.2.2.2.2.2.2.2.2.1 v.2.2.2.2.2.2.2.2.2.2.2.2.2.2.2.2.2.2.2.2.2.2.2.2.2.2.2 := by
  refine pk_loop (σ := St1) (fun f j v => wX_expire_131 post (nI g) (nI c) f (nI j) v.1 v.2.1 v.2.2.1 v.2.2.2.1 v.2.2.2.2.1 v.2.2.2.2.2.1 v.2.2.2.2.2.2.1 v.2.2.2.2.2.2.2.1 v.2.2.2.2.2.2.2.2.1 v.2.2.2.2.2.2.2.2.2.1 v.2.2.2.2.2.2.2.2.2.2.1 v.2.2.2.2.2.2.2.2.2.2.2.1 v.2.2.2.2.2.2.2.2.2.2.2.2.1 v.2.2.2.2.2.2.2.2.2.2.2.2.2.1 v.2.2.2.2.2.2.2.2.2.2.2.2.2.2.1 v.2.2.2.2.2.2.2.2.2.2.2.2.2.2.2.1 v.2.2.2.2.2.2.2.2.2.2.2.2.2.2.2.2.1 v.2.2.2.2.2.2.2.2.2.2.2.2.2.2.2.2.2.1 v.2.2.2.2.2.2.2.2.2.2.2.2.2.2.2.2.2.2.1 v.2.2.2.2.2.2.2.2.2.2.2.2.2.2.2.2.2.2.2.1 v.2.2.2.2.2.2.2.2.2.2.2.2.2.2.2.2.2.2.2.2.1 v.2.2.2.2.2.2.2.2.2.2.2.2.2.2.2.2.2.2.2.2.2.1 v.2.2.2.2.2.2.2.2.2.2.2.2.2.2.2.2.2.2.2.2.2.2.1 v.2.2.2.2.2.2.2.2.2.2.2.2.2.2.2.2.2.2.2.2.2.2.2.1 v.2.2.2.2.2.2.2.2.2.2.2.2.2.2.2.2.2.2.2.2.2.2.2.2.1 v.2.2.2.2.2.2.2.2.2.2.2.2.2.2.2.2.2.2.2.2.2.2.2.2.2.1 v.2.2.2.2.2.2.2.2.2.2.2.2.2.2.2.2.2.2.2.2.2.2.2.2.2.2.1 v.2.2.2.2.2.2.2.2.2.2.2.2.2.2.2.2.2.2.2.2.2.2.2.2.2.2.2) (fun j v => (∃ k T X S SL, la_I j k T X S SL v ∧ (∀ l, l < j → T l ≤ t)) ∧ la_re c Y U v.2.2.2.2.2.2.2.2.2.2.2.2.2.2.2.2.2.2.2.2.2.2.2.2.2.1 v.2.2.2.2.2.2.2.2.2.2.2.2.2.2.2.2.2.2.2.2.2.2.2.2.2.2.1 v.2.2.2.2.2.2.2.2.2.2.2.2.2.2.2.2.2.2.2.2.2.2.2.2.2.2.2 ∧ v.2.2.2.2.2.2.2.2.2.2.2.2.2.2.2.2.2.2.2.2.2.2.2.2.1 0 = 0) c 0 v (by omega) ⟨⟨0, T0, X0, S0, SL0, hI, fun l h => absurd h (by omega)⟩, hR, h17⟩
    (fun f v h => ?_) (fun f j v hj h hw => ?_)
  · obtain ⟨⟨k, T, X, S, SL, hI, hT⟩, hR, h17⟩ := h
    refine pk_le c c (fun _ => ?_) (fun z => absurd z (by omega))
    unfold wpX_bringDraft
    refine nm_r h17 ⟨1, ?_⟩
    exact br_t (by decide) (H k T X S SL _ hI hT rfl)
  · obtain ⟨⟨k, T, X, S, SL, hI, hT⟩, hR, h17⟩ := h
    obtain ⟨r1, r2, r3⟩ := hR j hj
    have hY' := hY j hj
    have hl1 := hY'.1
    have hl8 := hY'.2.1
    refine pk_le c j (fun z => absurd z (by omega)) (fun _ => ⟨pk_in j 60 (by omega), ?_⟩)
    rw [nI_clamp (show j < 2 ^ 31 by omega), r1]
    refine nm_e ?_
    refine pk_loop (σ := Nat → Int32) (fun f' i b => wX_expire_151 post (wX_expire_131 post (nI g) (nI c) f) (nI g) (nI c) (nI j) (nI (Y j).length) v.2.1 v.2.2.1 v.2.2.2.1 v.2.2.2.2.1 v.2.2.2.2.2.1 v.2.2.2.2.2.2.1 v.2.2.2.2.2.2.2.1 f' (nI i) (b) v.2.2.2.2.2.2.2.2.2.1 v.2.2.2.2.2.2.2.2.2.2.1 v.2.2.2.2.2.2.2.2.2.2.2.1 v.2.2.2.2.2.2.2.2.2.2.2.2.1 v.2.2.2.2.2.2.2.2.2.2.2.2.2.1 v.2.2.2.2.2.2.2.2.2.2.2.2.2.2.1 v.2.2.2.2.2.2.2.2.2.2.2.2.2.2.2.1 v.2.2.2.2.2.2.2.2.2.2.2.2.2.2.2.2.1 v.2.2.2.2.2.2.2.2.2.2.2.2.2.2.2.2.2.1 v.2.2.2.2.2.2.2.2.2.2.2.2.2.2.2.2.2.2.1 v.2.2.2.2.2.2.2.2.2.2.2.2.2.2.2.2.2.2.2.1 v.2.2.2.2.2.2.2.2.2.2.2.2.2.2.2.2.2.2.2.2.1 v.2.2.2.2.2.2.2.2.2.2.2.2.2.2.2.2.2.2.2.2.2.1 v.2.2.2.2.2.2.2.2.2.2.2.2.2.2.2.2.2.2.2.2.2.2.1 v.2.2.2.2.2.2.2.2.2.2.2.2.2.2.2.2.2.2.2.2.2.2.2.1 v.2.2.2.2.2.2.2.2.2.2.2.2.2.2.2.2.2.2.2.2.2.2.2.2.1 v.2.2.2.2.2.2.2.2.2.2.2.2.2.2.2.2.2.2.2.2.2.2.2.2.2.1 v.2.2.2.2.2.2.2.2.2.2.2.2.2.2.2.2.2.2.2.2.2.2.2.2.2.2.1 v.2.2.2.2.2.2.2.2.2.2.2.2.2.2.2.2.2.2.2.2.2.2.2.2.2.2.2) (fun i b => ∀ m, m < i → b m = nI ((Y j).getD m 0)) (Y j).length 0 v.2.2.2.2.2.2.2.2.1 (by omega) (fun m h => absurd h (by omega))
      (fun f' b h => ?_) (fun f' i b hi h hw' => ?_)
    · refine pk_le (Y j).length (Y j).length (fun _ => ⟨pk_in j 60 (by omega), ?_⟩) (fun z => absurd z (by omega))
      rw [nI_clamp (show j < 2 ^ 31 by omega), r2]
      refine la_writeDraft (u := (nI (Y j).length, v.2.1, v.2.2.1, v.2.2.2.1, v.2.2.2.2.1, v.2.2.2.2.2.1, v.2.2.2.2.2.2.1, v.2.2.2.2.2.2.2.1, b, v.2.2.2.2.2.2.2.2.2.1, v.2.2.2.2.2.2.2.2.2.2.1, v.2.2.2.2.2.2.2.2.2.2.2.1, v.2.2.2.2.2.2.2.2.2.2.2.2.1, v.2.2.2.2.2.2.2.2.2.2.2.2.2.1, v.2.2.2.2.2.2.2.2.2.2.2.2.2.2.1, v.2.2.2.2.2.2.2.2.2.2.2.2.2.2.2.1, v.2.2.2.2.2.2.2.2.2.2.2.2.2.2.2.2.1, v.2.2.2.2.2.2.2.2.2.2.2.2.2.2.2.2.2.1, v.2.2.2.2.2.2.2.2.2.2.2.2.2.2.2.2.2.2.1, v.2.2.2.2.2.2.2.2.2.2.2.2.2.2.2.2.2.2.2.1, v.2.2.2.2.2.2.2.2.2.2.2.2.2.2.2.2.2.2.2.2.1, v.2.2.2.2.2.2.2.2.2.2.2.2.2.2.2.2.2.2.2.2.2.1, v.2.2.2.2.2.2.2.2.2.2.2.2.2.2.2.2.2.2.2.2.2.2.1, v.2.2.2.2.2.2.2.2.2.2.2.2.2.2.2.2.2.2.2.2.2.2.2.1, v.2.2.2.2.2.2.2.2.2.2.2.2.2.2.2.2.2.2.2.2.2.2.2.2.1, v.2.2.2.2.2.2.2.2.2.2.2.2.2.2.2.2.2.2.2.2.2.2.2.2.2.1, v.2.2.2.2.2.2.2.2.2.2.2.2.2.2.2.2.2.2.2.2.2.2.2.2.2.2.1, v.2.2.2.2.2.2.2.2.2.2.2.2.2.2.2.2.2.2.2.2.2.2.2.2.2.2.2)) (n := j) (k := k) (T := T) (X := X) (S := S) (SL := SL) hI hY' ⟨rfl, h⟩ (by omega) (by have := hU j hj; omega) (fun k' SL' s u' q1 q2 q3 => nm_r (nI_1 j) (hw u' ⟨⟨k', _, _, _, SL', q1, fun l hl => ?_⟩, ?_, ?_⟩))
      · by_cases e : l = j
        · rw [e, la_p_s]
          exact hU j hj
        · rw [la_p_n e]
          exact hT l (by omega)
      · have e1 : u'.2.2.2.2.2.2.2.2.2.2.2.2.2.2.2.2.2.2.2.2.2.2.2.2.2.1 = v.2.2.2.2.2.2.2.2.2.2.2.2.2.2.2.2.2.2.2.2.2.2.2.2.2.1 := congrArg (fun q => q.2.2.2.1) q3
        have e2 : u'.2.2.2.2.2.2.2.2.2.2.2.2.2.2.2.2.2.2.2.2.2.2.2.2.2.2.1 = v.2.2.2.2.2.2.2.2.2.2.2.2.2.2.2.2.2.2.2.2.2.2.2.2.2.2.1 := congrArg (fun q => q.2.2.2.2.1) q3
        have e3 : u'.2.2.2.2.2.2.2.2.2.2.2.2.2.2.2.2.2.2.2.2.2.2.2.2.2.2.2 = v.2.2.2.2.2.2.2.2.2.2.2.2.2.2.2.2.2.2.2.2.2.2.2.2.2.2.2 := congrArg (fun q => q.2.2.2.2.2) q3
        rw [e1, e2, e3]
        exact hR
      · have e1 : u'.2.2.2.2.2.2.2.2.2.2.2.2.2.2.2.2.2.2.2.2.2.2.2.2.1 = v.2.2.2.2.2.2.2.2.2.2.2.2.2.2.2.2.2.2.2.2.2.2.2.2.1 := congrArg (fun q => q.2.2.1) q3
        rw [e1]
        exact h17
    · refine pk_le (Y j).length i (fun z => absurd z (by omega)) (fun _ => ⟨pk_in (8 * j + i) 480 (by omega) (la_ix j i), pk_in i 8 (by omega), nm_e (nm_r (nI_1 i) (hw' _ (fun m hm => ?_)))⟩)
      rw [nI_clamp (show i < 2 ^ 31 by omega), pk_cl (8 * j + i) (la_ix j i)]
      by_cases e : m = i
      · rw [e, pk_us]
        exact r3 i hi
      · rw [pk_un e]
        exact h m (by omega)
theorem la_expire22 {post : Int32 → St1 → Prop} {u : St1} {n k g c t : Nat} {T : Nat → Nat} {X : Nat → List Nat} {S : Nat → Nat} {SL : Nat → List Nat} (hI : la_I n k T X S SL u) (hdc : u.1 = 0) (hg : g + c = n) (hT : ∀ l, l < n → T l ≤ t) (ht : t ≤ 1000)
    (H : ∀ k T X S SL u', la_I c k T X S SL u' → (∀ l, l < c → T l ≤ t) → u'.1 = 0 → post (nI g) u') : ∃ f, wX_expire_22 post (nI g) (nI c) f 0 u.1 u.2.1 u.2.2.1 u.2.2.2.1 u.2.2.2.2.1 u.2.2.2.2.2.1 u.2.2.2.2.2.2.1 u.2.2.2.2.2.2.2.1 u.2.2.2.2.2.2.2.2.1 u.2.2.2.2.2.2.2.2.2.1 u.2.2.2.2.2.2.2.2.2.2.1 u.2.2.2.2.2.2.2.2.2.2.2.1 u.2.2.2.2.2.2.2.2.2.2.2.2.1 u.2.2.2.2.2.2.2.2.2.2.2.2.2.1 u.2.2.2.2.2.2.2.2.2.2.2.2.2.2.1 u.2.2.2.2.2.2.2.2.2.2.2.2.2.2.2.1 u.2.2.2.2.2.2.2.2.2.2.2.2.2.2.2.2.1 u.2.2.2.2.2.2.2.2.2.2.2.2.2.2.2.2.2.1 u.2.2.2.2.2.2.2.2.2.2.2.2.2.2.2.2.2.2.1 u.2.2.2.2.2.2.2.2.2.2.2.2.2.2.2.2.2.2.2.1 u.2.2.2.2.2.2.2.2.2.2.2.2.2.2.2.2.2.2.2.2.1 u.2.2.2.2.2.2.2.2.2.2.2.2.2.2.2.2.2.2.2.2.2.1 u.2.2.2.2.2.2.2.2.2.2.2.2.2.2.2.2.2.2.2.2.2.2.1 u.2.2.2.2.2.2.2.2.2.2.2.2.2.2.2.2.2.2.2.2.2.2.2.1 u.2.2.2.2.2.2.2.2.2.2.2.2.2.2.2.2.2.2.2.2.2.2.2.2.1 u.2.2.2.2.2.2.2.2.2.2.2.2.2.2.2.2.2.2.2.2.2.2.2.2.2.1 u.2.2.2.2.2.2.2.2.2.2.2.2.2.2.2.2.2.2.2.2.2.2.2.2.2.2.1 u.2.2.2.2.2.2.2.2.2.2.2.2.2.2.2.2.2.2.2.2.2.2.2.2.2.2.2 := by
  have hI' := hI
  obtain ⟨⟨⟨hA1, hA2, hA3, hA4, hA5⟩, hln, hsh, hB, hC, hD⟩, hO⟩ := hI'
  refine pk_loop (σ := Int32 × (Nat → Int32) × (Nat → Int32) × (Nat → Int32) × (Nat → Int32) × (Nat → Int32)) (fun f j s => wX_expire_22 post (nI g) (nI c) f (nI j) u.1 u.2.1 u.2.2.1 u.2.2.2.1 u.2.2.2.2.1 u.2.2.2.2.2.1 u.2.2.2.2.2.2.1 (s.1) u.2.2.2.2.2.2.2.2.1 u.2.2.2.2.2.2.2.2.2.1 u.2.2.2.2.2.2.2.2.2.2.1 u.2.2.2.2.2.2.2.2.2.2.2.1 u.2.2.2.2.2.2.2.2.2.2.2.2.1 u.2.2.2.2.2.2.2.2.2.2.2.2.2.1 u.2.2.2.2.2.2.2.2.2.2.2.2.2.2.1 u.2.2.2.2.2.2.2.2.2.2.2.2.2.2.2.1 u.2.2.2.2.2.2.2.2.2.2.2.2.2.2.2.2.1 u.2.2.2.2.2.2.2.2.2.2.2.2.2.2.2.2.2.1 u.2.2.2.2.2.2.2.2.2.2.2.2.2.2.2.2.2.2.1 u.2.2.2.2.2.2.2.2.2.2.2.2.2.2.2.2.2.2.2.1 u.2.2.2.2.2.2.2.2.2.2.2.2.2.2.2.2.2.2.2.2.1 u.2.2.2.2.2.2.2.2.2.2.2.2.2.2.2.2.2.2.2.2.2.1 u.2.2.2.2.2.2.2.2.2.2.2.2.2.2.2.2.2.2.2.2.2.2.1 (s.2.1) (s.2.2.1) (s.2.2.2.1) (s.2.2.2.2.1) (s.2.2.2.2.2))
    (fun j s => la_re j (fun l => X (g + l)) (fun l => T (g + l)) s.2.2.2.1 s.2.2.2.2.1 s.2.2.2.2.2) c 0 (u.2.2.2.2.2.2.2.1, u.2.2.2.2.2.2.2.2.2.2.2.2.2.2.2.2.2.2.2.2.2.2.2.1, u.2.2.2.2.2.2.2.2.2.2.2.2.2.2.2.2.2.2.2.2.2.2.2.2.1, u.2.2.2.2.2.2.2.2.2.2.2.2.2.2.2.2.2.2.2.2.2.2.2.2.2.1, u.2.2.2.2.2.2.2.2.2.2.2.2.2.2.2.2.2.2.2.2.2.2.2.2.2.2.1, u.2.2.2.2.2.2.2.2.2.2.2.2.2.2.2.2.2.2.2.2.2.2.2.2.2.2.2) (by omega) (fun j h => absurd h (by omega))
    (fun f s h => ?_) (fun f j s hj h hw => ?_)
  · obtain ⟨fr, b16, b17, b18, b19, b20⟩ := s
    dsimp only at h ⊢
    refine pk_le c c (fun _ => ?_) (fun z => absurd z (by omega))
    unfold wpX_keepDraft
    refine nm_e ⟨1, ?_⟩
    refine br_t (by rw [hdc]; decide) ?_
    refine la_empty (u := (u.1, u.2.1, u.2.2.1, u.2.2.2.1, u.2.2.2.2.1, u.2.2.2.2.2.1, u.2.2.2.2.2.2.1, fr, u.2.2.2.2.2.2.2.2.1, u.2.2.2.2.2.2.2.2.2.1, u.2.2.2.2.2.2.2.2.2.2.1, u.2.2.2.2.2.2.2.2.2.2.2.1, u.2.2.2.2.2.2.2.2.2.2.2.2.1, u.2.2.2.2.2.2.2.2.2.2.2.2.2.1, u.2.2.2.2.2.2.2.2.2.2.2.2.2.2.1, u.2.2.2.2.2.2.2.2.2.2.2.2.2.2.2.1, u.2.2.2.2.2.2.2.2.2.2.2.2.2.2.2.2.1, u.2.2.2.2.2.2.2.2.2.2.2.2.2.2.2.2.2.1, u.2.2.2.2.2.2.2.2.2.2.2.2.2.2.2.2.2.2.1, u.2.2.2.2.2.2.2.2.2.2.2.2.2.2.2.2.2.2.2.1, u.2.2.2.2.2.2.2.2.2.2.2.2.2.2.2.2.2.2.2.2.1, u.2.2.2.2.2.2.2.2.2.2.2.2.2.2.2.2.2.2.2.2.2.1, u.2.2.2.2.2.2.2.2.2.2.2.2.2.2.2.2.2.2.2.2.2.2.1, b16, upd b17 0 u.1, b18, b19, b20)) (fun b hb => ?_)
    refine la_expire131 (v := (u.1, u.2.1, 0, 0, nI 1, 0, u.2.2.2.2.2.2.1, fr, u.2.2.2.2.2.2.2.2.1, u.2.2.2.2.2.2.2.2.2.1, u.2.2.2.2.2.2.2.2.2.2.1, u.2.2.2.2.2.2.2.2.2.2.2.1, upd u.2.2.2.2.2.2.2.2.2.2.2.2.1 0 0, u.2.2.2.2.2.2.2.2.2.2.2.2.2.1, u.2.2.2.2.2.2.2.2.2.2.2.2.2.2.1, u.2.2.2.2.2.2.2.2.2.2.2.2.2.2.2.1, u.2.2.2.2.2.2.2.2.2.2.2.2.2.2.2.2.1, u.2.2.2.2.2.2.2.2.2.2.2.2.2.2.2.2.2.1, b, upd u.2.2.2.2.2.2.2.2.2.2.2.2.2.2.2.2.2.2.2.1 0 (-1), upd u.2.2.2.2.2.2.2.2.2.2.2.2.2.2.2.2.2.2.2.2.1 0 (-1), upd u.2.2.2.2.2.2.2.2.2.2.2.2.2.2.2.2.2.2.2.2.2.1 0 (-1), upd u.2.2.2.2.2.2.2.2.2.2.2.2.2.2.2.2.2.2.2.2.2.2.1 0 (-1), b16, upd b17 0 u.1, b18, b19, b20)) (Y := fun l => X (g + l)) (U := fun l => T (g + l)) (t := t) (by omega)
      (la_I_0 (T := T) (X := X) (S := S) (SL := SL) (u := (u.1, u.2.1, u.2.2.1, u.2.2.2.1, u.2.2.2.2.1, u.2.2.2.2.2.1, u.2.2.2.2.2.2.1, fr, u.2.2.2.2.2.2.2.2.1, u.2.2.2.2.2.2.2.2.2.1, u.2.2.2.2.2.2.2.2.2.2.1, u.2.2.2.2.2.2.2.2.2.2.2.1, u.2.2.2.2.2.2.2.2.2.2.2.2.1, u.2.2.2.2.2.2.2.2.2.2.2.2.2.1, u.2.2.2.2.2.2.2.2.2.2.2.2.2.2.1, u.2.2.2.2.2.2.2.2.2.2.2.2.2.2.2.1, u.2.2.2.2.2.2.2.2.2.2.2.2.2.2.2.2.1, u.2.2.2.2.2.2.2.2.2.2.2.2.2.2.2.2.2.1, u.2.2.2.2.2.2.2.2.2.2.2.2.2.2.2.2.2.2.1, u.2.2.2.2.2.2.2.2.2.2.2.2.2.2.2.2.2.2.2.1, u.2.2.2.2.2.2.2.2.2.2.2.2.2.2.2.2.2.2.2.2.1, u.2.2.2.2.2.2.2.2.2.2.2.2.2.2.2.2.2.2.2.2.2.1, u.2.2.2.2.2.2.2.2.2.2.2.2.2.2.2.2.2.2.2.2.2.2.1, b16, upd b17 0 u.1, b18, b19, b20)) hb) (fun j hj => (hA3 (g + j) (by omega)).1) (fun j hj => hT (g + j) (by omega)) ht h (by dsimp only; rw [pk_us]; exact hdc) H
  · obtain ⟨fr, b16, b17, b18, b19, b20⟩ := s
    dsimp only at h ⊢
    obtain ⟨hr, hTl, hsk, hSL⟩ := hA3 (g + j) (by omega)
    have hlen : (SL (S (g + j))).length = (X (g + j)).length := by
      rw [hSL, List.length_map]
    have hlen8 := hr.2.1
    refine pk_le c j (fun z => absurd z (by omega)) (fun _ => ?_)
    rw [nI_add]
    refine la_readLine (u := (u.1, u.2.1, u.2.2.1, u.2.2.2.1, u.2.2.2.2.1, u.2.2.2.2.2.1, u.2.2.2.2.2.2.1, fr, u.2.2.2.2.2.2.2.2.1, u.2.2.2.2.2.2.2.2.2.1, u.2.2.2.2.2.2.2.2.2.2.1, u.2.2.2.2.2.2.2.2.2.2.2.1, u.2.2.2.2.2.2.2.2.2.2.2.2.1, u.2.2.2.2.2.2.2.2.2.2.2.2.2.1, u.2.2.2.2.2.2.2.2.2.2.2.2.2.2.1, u.2.2.2.2.2.2.2.2.2.2.2.2.2.2.2.1, u.2.2.2.2.2.2.2.2.2.2.2.2.2.2.2.2.1, u.2.2.2.2.2.2.2.2.2.2.2.2.2.2.2.2.2.1, u.2.2.2.2.2.2.2.2.2.2.2.2.2.2.2.2.2.2.1, u.2.2.2.2.2.2.2.2.2.2.2.2.2.2.2.2.2.2.2.1, u.2.2.2.2.2.2.2.2.2.2.2.2.2.2.2.2.2.2.2.2.1, u.2.2.2.2.2.2.2.2.2.2.2.2.2.2.2.2.2.2.2.2.2.1, u.2.2.2.2.2.2.2.2.2.2.2.2.2.2.2.2.2.2.2.2.2.2.1, b16, b17, b18, b19, b20)) (M := 1 + 8 * n) (n := n) (k := k) (T := T) (X := X) (S := S) (SL := SL) (la_I1_q (u := u) rfl hI.1) (by omega) (fun fr' c16 c17 q => ⟨pk_in (g + j) 60 (by omega), ?_⟩)
    dsimp only
    rw [nI_clamp (show g + j < 2 ^ 31 by omega), (hB.1 (g + j) (by omega)).2]
    refine ⟨pk_in (S (g + j)) 60 (by omega), pk_in j 60 (by omega), ?_⟩
    rw [nI_clamp (show S (g + j) < 2 ^ 31 by omega), nI_clamp (show j < 2 ^ 31 by omega), (hB.2.1 _ hsk).1, hlen, (hB.1 (g + j) (by omega)).1]
    refine nm_e ⟨pk_in (g + j) 60 (by omega), pk_in j 60 (by omega), nm_e ?_⟩
    refine pk_loop (σ := Nat → Int32) (fun f' i b => wX_expire_76 post (wX_expire_22 post (nI g) (nI c) f) (nI g) (nI c) (nI j) u.1 u.2.1 u.2.2.1 u.2.2.2.1 u.2.2.2.2.1 u.2.2.2.2.2.1 u.2.2.2.2.2.2.1 (fr') f' (nI i) u.2.2.2.2.2.2.2.2.1 u.2.2.2.2.2.2.2.2.2.1 u.2.2.2.2.2.2.2.2.2.2.1 u.2.2.2.2.2.2.2.2.2.2.2.1 u.2.2.2.2.2.2.2.2.2.2.2.2.1 u.2.2.2.2.2.2.2.2.2.2.2.2.2.1 u.2.2.2.2.2.2.2.2.2.2.2.2.2.2.1 u.2.2.2.2.2.2.2.2.2.2.2.2.2.2.2.1 u.2.2.2.2.2.2.2.2.2.2.2.2.2.2.2.2.1 u.2.2.2.2.2.2.2.2.2.2.2.2.2.2.2.2.2.1 u.2.2.2.2.2.2.2.2.2.2.2.2.2.2.2.2.2.2.1 u.2.2.2.2.2.2.2.2.2.2.2.2.2.2.2.2.2.2.2.1 u.2.2.2.2.2.2.2.2.2.2.2.2.2.2.2.2.2.2.2.2.1 u.2.2.2.2.2.2.2.2.2.2.2.2.2.2.2.2.2.2.2.2.2.1 u.2.2.2.2.2.2.2.2.2.2.2.2.2.2.2.2.2.2.2.2.2.2.1 (c16) (c17) (b) (upd b19 j (nI (X (g + j)).length)) (upd b20 j (nI (T (g + j))))) (fun i b => (∀ m, m < i → b (8 * j + m) = nI ((X (g + j)).getD m 0)) ∧ (∀ m, m < 8 * j → b m = b18 m)) (X (g + j)).length 0 b18 (by omega) ⟨fun m h => absurd h (by omega), fun _ _ => rfl⟩
      (fun f' b y => ⟨pk_in j 60 (by omega), ?_⟩) (fun f' i b hi y hw' => ⟨pk_in j 60 (by omega), ?_⟩)
    · rw [nI_clamp (show j < 2 ^ 31 by omega), pk_us]
      refine pk_le (X (g + j)).length (X (g + j)).length (fun _ => nm_r (nI_1 j) (hw (fr', c16, c17, b, upd b19 j (nI (X (g + j)).length), upd b20 j (nI (T (g + j)))) (fun m hm => ?_))) (fun z => absurd z (by omega))
      dsimp only
      by_cases e : m = j
      · subst e
        rw [pk_us, pk_us]
        exact ⟨rfl, rfl, y.1⟩
      · rw [pk_un e, pk_un e]
        obtain ⟨z1, z2, z3⟩ := h m (by omega)
        refine ⟨z1, z2, fun i hi => ?_⟩
        have := (hA3 (g + m) (by omega)).1.2.1
        rw [y.2 (8 * m + i) (by omega)]
        exact z3 i hi
    · rw [nI_clamp (show j < 2 ^ 31 by omega), pk_us]
      refine pk_le (X (g + j)).length i (fun z => absurd z (by omega)) (fun _ => ⟨pk_in i 8 (by omega), pk_in (8 * j + i) 480 (by omega) (la_ix j i), nm_e (nm_r (nI_1 i) (hw' _ ⟨fun m hm => ?_, fun m hm => ?_⟩))⟩)
      · rw [pk_cl (8 * j + i) (la_ix j i), nI_clamp (show i < 2 ^ 31 by omega)]
        by_cases e : m = i
        · rw [e, pk_us]
          exact q i hi
        · rw [pk_un (by omega)]
          exact y.1 m (by omega)
      · rw [pk_cl (8 * j + i) (la_ix j i), pk_un (by omega)]
        exact y.2 m hm
theorem la_expire {post : Int32 → St1 → Prop} {u : St1} {n k t : Nat} {T : Nat → Nat} {X : Nat → List Nat} {S : Nat → Nat} {SL : Nat → List Nat} {x : Int32} (hI : la_I n k T X S SL u) (hdc : u.1 = 0) (hT : ∀ l, l < n → T l ≤ t) (ht : t ≤ 1000)
    (H : ∀ r c k T X S SL u', c ≤ n → la_I c k T X S SL u' → (∀ l, l < c → T l ≤ t) → u'.1 = 0 → post r u') : wpX_expire post u x := by
  have hln := hI.1.2.1
  have hA1 := hI.1.1.1
  unfold wpX_expire
  refine la_countBelow hln hA1 (fun g hg => pk_eq g 0 (fun z => H 0 n k T X S SL u (by omega) hI hT hdc) (fun z => ?_))
  refine nm_r (e' := nI (n - g)) (by rw [hln]; exact pk_sub hg) ?_
  exact la_expire22 hI hdc (by omega) hT ht (fun k T X S SL u' q1 q2 q3 => H _ (n - g) k T X S SL u' (by omega) q1 q2 q3)
/-! the law's filling -/
theorem la_cell {post : Int32 → Prop} {L c : Nat} {xs : Nat → Int32} (hL : L ≤ 260) (hc : c < 1000) (H : ∀ x, post x) : wpL_cell post L xs () (nI c) := by
  unfold wpL_cell
  exact pk_le L c (fun _ => H _) (fun z => ⟨pk_in c L z, H _⟩)
theorem la_itemOf {post : Int32 → Prop} {x : Int32} (H : ∀ w, la_ok w → post (nI w)) : wpL_itemOf post () x := by
  unfold wpL_itemOf
  obtain ⟨j, hj, e⟩ := pk_andE x (m := 15) 4 (by decide)
  obtain ⟨a, ha, e2⟩ := pk_andE (x >>> ((4 : Int32) &&& 31)) (m := 7) 3 (by decide)
  rw [e2]
  refine nm_r e (pk_le 9 j (fun z => pk_eq j 15 (fun y => ?_) (fun y => ?_)) (fun z => ⟨by decide, ?_⟩))
  · have e3 : (1000 : Int32) + nI a * 130 = nI (1000 + a * 130) := by
      show nI 1000 + nI a * nI 130 = _
      rw [pk_mul, nI_add]
    rw [e3]
    exact H _ (Or.inr (by omega))
  · have e3 : (1000 : Int32) + nI a * 1 = nI (1000 + a * 1) := by
      show nI 1000 + nI a * nI 1 = _
      rw [pk_mul, nI_add]
    rw [e3]
    exact H _ (Or.inr (by omega))
  · have e3 : nI j - nI j / 4 * 4 = nI (j % 4) := pk_rem (d := 4) (by omega) (by omega) (by omega)
    rw [e3]
    exact H _ (Or.inl (by omega))
theorem la_fill26 {post : St1 → Prop} {L : Nat} {xs : Nat → Int32} {u : St1} {n k a m t b : Nat} {T : Nat → Nat} {X : Nat → List Nat} {S : Nat → Nat} {SL : Nat → List Nat} (hL : L ≤ 260) (ha : a + m < 1000) (hm : n + m ≤ 60) (hI : la_I n k T X S SL u) (hdc : u.1 = 0) (hT : ∀ l, l < n → T l ≤ b) (hlast : 0 < n → T (n - 1) ≤ t) (htb : t ≤ b) (ht : b + 3 * m ≤ 1000)
    (H : ∀ k T X S SL u', la_I (n + m) k T X S SL u' → (∀ l, l < n + m → T l ≤ b + 3 * m) → u'.1 = 0 → post u') : ∃ f, wL_fill_26 post L xs (nI a) (nI m) f (nI t) 0 u.1 u.2.1 u.2.2.1 u.2.2.2.1 u.2.2.2.2.1 u.2.2.2.2.2.1 u.2.2.2.2.2.2.1 u.2.2.2.2.2.2.2.1 u.2.2.2.2.2.2.2.2.1 u.2.2.2.2.2.2.2.2.2.1 u.2.2.2.2.2.2.2.2.2.2.1 u.2.2.2.2.2.2.2.2.2.2.2.1 u.2.2.2.2.2.2.2.2.2.2.2.2.1 u.2.2.2.2.2.2.2.2.2.2.2.2.2.1 u.2.2.2.2.2.2.2.2.2.2.2.2.2.2.1 u.2.2.2.2.2.2.2.2.2.2.2.2.2.2.2.1 u.2.2.2.2.2.2.2.2.2.2.2.2.2.2.2.2.1 u.2.2.2.2.2.2.2.2.2.2.2.2.2.2.2.2.2.1 u.2.2.2.2.2.2.2.2.2.2.2.2.2.2.2.2.2.2.1 u.2.2.2.2.2.2.2.2.2.2.2.2.2.2.2.2.2.2.2.1 u.2.2.2.2.2.2.2.2.2.2.2.2.2.2.2.2.2.2.2.2.1 u.2.2.2.2.2.2.2.2.2.2.2.2.2.2.2.2.2.2.2.2.2.1 u.2.2.2.2.2.2.2.2.2.2.2.2.2.2.2.2.2.2.2.2.2.2.1 u.2.2.2.2.2.2.2.2.2.2.2.2.2.2.2.2.2.2.2.2.2.2.2.1 u.2.2.2.2.2.2.2.2.2.2.2.2.2.2.2.2.2.2.2.2.2.2.2.2.1 u.2.2.2.2.2.2.2.2.2.2.2.2.2.2.2.2.2.2.2.2.2.2.2.2.2.1 u.2.2.2.2.2.2.2.2.2.2.2.2.2.2.2.2.2.2.2.2.2.2.2.2.2.2.1 u.2.2.2.2.2.2.2.2.2.2.2.2.2.2.2.2.2.2.2.2.2.2.2.2.2.2.2 := by
  refine pk_loop (σ := Nat × St1) (fun f i s => wL_fill_26 post L xs (nI a) (nI m) f (nI s.1) (nI i) s.2.1 s.2.2.1 s.2.2.2.1 s.2.2.2.2.1 s.2.2.2.2.2.1 s.2.2.2.2.2.2.1 s.2.2.2.2.2.2.2.1 s.2.2.2.2.2.2.2.2.1 s.2.2.2.2.2.2.2.2.2.1 s.2.2.2.2.2.2.2.2.2.2.1 s.2.2.2.2.2.2.2.2.2.2.2.1 s.2.2.2.2.2.2.2.2.2.2.2.2.1 s.2.2.2.2.2.2.2.2.2.2.2.2.2.1 s.2.2.2.2.2.2.2.2.2.2.2.2.2.2.1 s.2.2.2.2.2.2.2.2.2.2.2.2.2.2.2.1 s.2.2.2.2.2.2.2.2.2.2.2.2.2.2.2.2.1 s.2.2.2.2.2.2.2.2.2.2.2.2.2.2.2.2.2.1 s.2.2.2.2.2.2.2.2.2.2.2.2.2.2.2.2.2.2.1 s.2.2.2.2.2.2.2.2.2.2.2.2.2.2.2.2.2.2.2.1 s.2.2.2.2.2.2.2.2.2.2.2.2.2.2.2.2.2.2.2.2.1 s.2.2.2.2.2.2.2.2.2.2.2.2.2.2.2.2.2.2.2.2.2.1 s.2.2.2.2.2.2.2.2.2.2.2.2.2.2.2.2.2.2.2.2.2.2.1 s.2.2.2.2.2.2.2.2.2.2.2.2.2.2.2.2.2.2.2.2.2.2.2.1 s.2.2.2.2.2.2.2.2.2.2.2.2.2.2.2.2.2.2.2.2.2.2.2.2.1 s.2.2.2.2.2.2.2.2.2.2.2.2.2.2.2.2.2.2.2.2.2.2.2.2.2.1 s.2.2.2.2.2.2.2.2.2.2.2.2.2.2.2.2.2.2.2.2.2.2.2.2.2.2.1 s.2.2.2.2.2.2.2.2.2.2.2.2.2.2.2.2.2.2.2.2.2.2.2.2.2.2.2.1 s.2.2.2.2.2.2.2.2.2.2.2.2.2.2.2.2.2.2.2.2.2.2.2.2.2.2.2.2) (fun i s => (∃ k T X S SL, la_I (n + i) k T X S SL s.2 ∧ (∀ l, l < n + i → T l ≤ b + 3 * i) ∧ (0 < n + i → T (n + i - 1) ≤ s.1)) ∧ s.2.1 = 0 ∧ s.1 ≤ b + 3 * i) m 0 (t, u) (by omega) ⟨⟨k, T, X, S, SL, hI, hT, hlast⟩, hdc, by dsimp only; omega⟩
    (fun f s h => ?_) (fun f i s hi h hw => ?_)
  · obtain ⟨τ, v⟩ := s
    obtain ⟨⟨k, T, X, S, SL, hI, hT, hla⟩, hdc, hτ⟩ := h
    dsimp only at hI hT hla hdc hτ ⊢
    exact pk_le m m (fun _ => H k T X S SL v hI hT hdc) (fun z => absurd z (by omega))
  · obtain ⟨τ, v⟩ := s
    obtain ⟨⟨k, T, X, S, SL, hI, hT, hla⟩, hdc, hτ⟩ := h
    dsimp only at hI hT hla hdc hτ ⊢
    refine pk_le m i (fun z => absurd z (by omega)) (fun _ => ?_)
    rw [nI_add]
    refine la_cell hL (by omega) (fun x => ?_)
    obtain ⟨j, hj, e⟩ := pk_andE (x >>> ((28 : Int32) &&& 31)) (m := 3) 2 (by decide)
    obtain ⟨q, hq, e2⟩ := pk_andE (x >>> ((25 : Int32) &&& 31)) (m := 3) 2 (by decide)
    refine nm_r (e' := nI (1 + j)) (by rw [e]; exact nI_add 1 j) ?_
    refine pk_loop (σ := Int32 × (Nat → Int32)) (fun f' y s => wL_fill_56 post L xs (wL_fill_26 post L xs (nI a) (nI m) f) (nI a) (nI m) (nI τ) (nI i) x (nI (1 + j)) f' (nI y) (s.1) v.2.1 v.2.2.1 v.2.2.2.1 v.2.2.2.2.1 v.2.2.2.2.2.1 v.2.2.2.2.2.2.1 v.2.2.2.2.2.2.2.1 (s.2) v.2.2.2.2.2.2.2.2.2.1 v.2.2.2.2.2.2.2.2.2.2.1 v.2.2.2.2.2.2.2.2.2.2.2.1 v.2.2.2.2.2.2.2.2.2.2.2.2.1 v.2.2.2.2.2.2.2.2.2.2.2.2.2.1 v.2.2.2.2.2.2.2.2.2.2.2.2.2.2.1 v.2.2.2.2.2.2.2.2.2.2.2.2.2.2.2.1 v.2.2.2.2.2.2.2.2.2.2.2.2.2.2.2.2.1 v.2.2.2.2.2.2.2.2.2.2.2.2.2.2.2.2.2.1 v.2.2.2.2.2.2.2.2.2.2.2.2.2.2.2.2.2.2.1 v.2.2.2.2.2.2.2.2.2.2.2.2.2.2.2.2.2.2.2.1 v.2.2.2.2.2.2.2.2.2.2.2.2.2.2.2.2.2.2.2.2.1 v.2.2.2.2.2.2.2.2.2.2.2.2.2.2.2.2.2.2.2.2.2.1 v.2.2.2.2.2.2.2.2.2.2.2.2.2.2.2.2.2.2.2.2.2.2.1 v.2.2.2.2.2.2.2.2.2.2.2.2.2.2.2.2.2.2.2.2.2.2.2.1 v.2.2.2.2.2.2.2.2.2.2.2.2.2.2.2.2.2.2.2.2.2.2.2.2.1 v.2.2.2.2.2.2.2.2.2.2.2.2.2.2.2.2.2.2.2.2.2.2.2.2.2.1 v.2.2.2.2.2.2.2.2.2.2.2.2.2.2.2.2.2.2.2.2.2.2.2.2.2.2.1 v.2.2.2.2.2.2.2.2.2.2.2.2.2.2.2.2.2.2.2.2.2.2.2.2.2.2.2) (fun y s => ∃ d, la_dr d s.1 s.2 ∧ d.length = y ∧ ∀ w, w ∈ d → la_ok w) (1 + j) 0 (v.1, v.2.2.2.2.2.2.2.2.1) (by omega) ⟨[], ⟨hdc, fun i h => absurd h (by simp)⟩, rfl, fun w h => absurd h (by simp)⟩
      (fun f' s h => ?_) (fun f' y s hy h hw' => ?_)
    · obtain ⟨c, b⟩ := s
      obtain ⟨d, d1, d2, d3⟩ := h
      dsimp only at d1 ⊢
      refine pk_le (1 + j) (1 + j) (fun _ => nm_r (e' := nI (τ + q)) (by rw [e2]; exact nI_add τ q) ?_) (fun z => absurd z (by omega))
      refine la_write (u := (c, v.2.1, v.2.2.1, v.2.2.2.1, v.2.2.2.2.1, v.2.2.2.2.2.1, v.2.2.2.2.2.2.1, v.2.2.2.2.2.2.2.1, b, v.2.2.2.2.2.2.2.2.2.1, v.2.2.2.2.2.2.2.2.2.2.1, v.2.2.2.2.2.2.2.2.2.2.2.1, v.2.2.2.2.2.2.2.2.2.2.2.2.1, v.2.2.2.2.2.2.2.2.2.2.2.2.2.1, v.2.2.2.2.2.2.2.2.2.2.2.2.2.2.1, v.2.2.2.2.2.2.2.2.2.2.2.2.2.2.2.1, v.2.2.2.2.2.2.2.2.2.2.2.2.2.2.2.2.1, v.2.2.2.2.2.2.2.2.2.2.2.2.2.2.2.2.2.1, v.2.2.2.2.2.2.2.2.2.2.2.2.2.2.2.2.2.2.1, v.2.2.2.2.2.2.2.2.2.2.2.2.2.2.2.2.2.2.2.1, v.2.2.2.2.2.2.2.2.2.2.2.2.2.2.2.2.2.2.2.2.1, v.2.2.2.2.2.2.2.2.2.2.2.2.2.2.2.2.2.2.2.2.2.1, v.2.2.2.2.2.2.2.2.2.2.2.2.2.2.2.2.2.2.2.2.2.2.1, v.2.2.2.2.2.2.2.2.2.2.2.2.2.2.2.2.2.2.2.2.2.2.2.1, v.2.2.2.2.2.2.2.2.2.2.2.2.2.2.2.2.2.2.2.2.2.2.2.2.1, v.2.2.2.2.2.2.2.2.2.2.2.2.2.2.2.2.2.2.2.2.2.2.2.2.2.1, v.2.2.2.2.2.2.2.2.2.2.2.2.2.2.2.2.2.2.2.2.2.2.2.2.2.2.1, v.2.2.2.2.2.2.2.2.2.2.2.2.2.2.2.2.2.2.2.2.2.2.2.2.2.2.2)) (n := n + i) (k := k) (T := T) (X := X) (S := S) (SL := SL) (d := d) hI ⟨by omega, by omega, d3⟩ d1 (by omega) (by omega) (fun z => by have := hla z; omega) (fun k' SL' s u' y1 y2 y3 => nm_r (nI_1 i) (hw (τ + q, u') ⟨⟨k', _, _, _, SL', y1, fun l hl => ?_, fun _ => ?_⟩, y3, ?_⟩))
      · by_cases el : l = n + i
        · rw [el, la_p_s]
          omega
        · rw [la_p_n el]
          have := hT l (by omega)
          omega
      · rw [show n + (i + 1) - 1 = n + i by omega, la_p_s]
        exact Nat.le_refl _
      · dsimp only
        omega
    · obtain ⟨c, b⟩ := s
      obtain ⟨d, d1, d2, d3⟩ := h
      dsimp only at d1 ⊢
      refine pk_le (1 + j) y (fun z => absurd z (by omega)) (fun _ => la_itemOf (fun w hw2 => ?_))
      refine la_item (u := (c, v.2.1, v.2.2.1, v.2.2.2.1, v.2.2.2.2.1, v.2.2.2.2.2.1, v.2.2.2.2.2.2.1, v.2.2.2.2.2.2.2.1, b, v.2.2.2.2.2.2.2.2.2.1, v.2.2.2.2.2.2.2.2.2.2.1, v.2.2.2.2.2.2.2.2.2.2.2.1, v.2.2.2.2.2.2.2.2.2.2.2.2.1, v.2.2.2.2.2.2.2.2.2.2.2.2.2.1, v.2.2.2.2.2.2.2.2.2.2.2.2.2.2.1, v.2.2.2.2.2.2.2.2.2.2.2.2.2.2.2.1, v.2.2.2.2.2.2.2.2.2.2.2.2.2.2.2.2.1, v.2.2.2.2.2.2.2.2.2.2.2.2.2.2.2.2.2.1, v.2.2.2.2.2.2.2.2.2.2.2.2.2.2.2.2.2.2.1, v.2.2.2.2.2.2.2.2.2.2.2.2.2.2.2.2.2.2.2.1, v.2.2.2.2.2.2.2.2.2.2.2.2.2.2.2.2.2.2.2.2.1, v.2.2.2.2.2.2.2.2.2.2.2.2.2.2.2.2.2.2.2.2.2.1, v.2.2.2.2.2.2.2.2.2.2.2.2.2.2.2.2.2.2.2.2.2.2.1, v.2.2.2.2.2.2.2.2.2.2.2.2.2.2.2.2.2.2.2.2.2.2.2.1, v.2.2.2.2.2.2.2.2.2.2.2.2.2.2.2.2.2.2.2.2.2.2.2.2.1, v.2.2.2.2.2.2.2.2.2.2.2.2.2.2.2.2.2.2.2.2.2.2.2.2.2.1, v.2.2.2.2.2.2.2.2.2.2.2.2.2.2.2.2.2.2.2.2.2.2.2.2.2.2.1, v.2.2.2.2.2.2.2.2.2.2.2.2.2.2.2.2.2.2.2.2.2.2.2.2.2.2.2)) (d := d) d1 (by omega) hw2 (fun c' b' g => nm_r (nI_1 y) (hw' (c', b') ⟨d ++ [w], g, by simp [d2], fun w' hw'' => ?_⟩))
      rcases List.mem_append.mp hw'' with z | z
      · exact d3 w' z
      · rw [List.mem_singleton.mp z]
        exact hw2
theorem la_fill {post : St1 → Prop} {L : Nat} {xs : Nat → Int32} {u : St1} {n k a m b : Nat} {T : Nat → Nat} {X : Nat → List Nat} {S : Nat → Nat} {SL : Nat → List Nat} (hL : L ≤ 260) (ha : a + m < 1000) (hm : n + m ≤ 60) (hI : la_I n k T X S SL u) (hdc : u.1 = 0) (hT : ∀ l, l < n → T l ≤ b) (ht : b + 3 * m ≤ 1000)
    (H : ∀ k T X S SL u', la_I (n + m) k T X S SL u' → (∀ l, l < n + m → T l ≤ b + 3 * m) → u'.1 = 0 → post u') : wpL_fill post L xs u (nI a) (nI m) := by
  unfold wpL_fill
  refine la_linesQ hI (pk_eq n 0 (fun z => ?_) (fun z => la_linesQ hI ?_))
  · exact la_fill26 (t := 0) hL ha hm hI hdc hT (fun y => absurd y (by omega)) (by omega) ht H
  · rw [la_m1 (by omega)]
    refine la_timeQ hI (by omega) ?_
    have h1 := hT (n - 1) (by omega)
    exact la_fill26 (t := T (n - 1)) hL ha hm hI hdc hT (fun _ => Nat.le_refl _) h1 ht H
end
section
/-! the law's last rounds: a line is recalled and written again -/
theorem la_take_n {p : List Nat} {i : Nat} (hi : i < p.length) : p.take (i + 1) = p.take i ++ [p.getD i 0] := by
  rw [la_getD hi, List.take_succ_eq_append_getElem hi]
theorem la_q_p {u u' : St1} (e : la_q u' = la_q u) : u'.2.1 = u.2.1 ∧ u'.2.2.2.2.2.2.2.2.2.1 = u.2.2.2.2.2.2.2.2.2.1 ∧ u'.2.2.2.2.2.1 = u.2.2.2.2.2.1 :=
  ⟨congrArg (fun q => q.1.2.1) e, congrArg (fun q => q.2.1.2.1) e, congrArg (fun q => q.1.2.2.2.2.2.1) e⟩
theorem la_law793 {post : Int32 → Prop} {L : Nat} {xs : Nat → Int32} {J : Int32 → Int32 → Int32 → Int32 → Int32 → Int32 → Int32 → Int64 → Int32 → (Nat → Int32) → (Nat → Int32) → (Nat → Int32) → (Nat → Int32) → (Nat → Int32) → (Nat → Int32) → (Nat → Int32) → (Nat → Int32) → (Nat → Int64) → (Nat → Int32) → (Nat → Int64) → (Nat → Int32) → (Nat → Int32) → (Nat → Int32) → (Nat → Int32) → (Nat → Int32) → (Nat → Int32) → (Nat → Int32) → (Nat → Int32) → (Nat → Int32) → Prop} {x2 x4 x7 : Int32} {kc ks : Nat} {u : St1} {n k l : Nat} {T : Nat → Nat} {X : Nat → List Nat} {S : Nat → Nat} {SL : Nat → List Nat}
    (hI : la_I (n + 1) k T X S SL u) (hn : n < 60) (hl : l < n) (hX : X n = X l) (hpc : u.2.1 = 0) (hfi : u.2.2.2.2.2.1 = 0)
    (H : ∀ u', la_I (n + 1) k T X S SL u' → J (x7 + 1) u'.1 u'.2.1 u'.2.2.1 u'.2.2.2.1 u'.2.2.2.2.1 u'.2.2.2.2.2.1 u'.2.2.2.2.2.2.1 u'.2.2.2.2.2.2.2.1 u'.2.2.2.2.2.2.2.2.1 u'.2.2.2.2.2.2.2.2.2.1 u'.2.2.2.2.2.2.2.2.2.2.1 u'.2.2.2.2.2.2.2.2.2.2.2.1 u'.2.2.2.2.2.2.2.2.2.2.2.2.1 u'.2.2.2.2.2.2.2.2.2.2.2.2.2.1 u'.2.2.2.2.2.2.2.2.2.2.2.2.2.2.1 u'.2.2.2.2.2.2.2.2.2.2.2.2.2.2.2.1 u'.2.2.2.2.2.2.2.2.2.2.2.2.2.2.2.2.1 u'.2.2.2.2.2.2.2.2.2.2.2.2.2.2.2.2.2.1 u'.2.2.2.2.2.2.2.2.2.2.2.2.2.2.2.2.2.2.1 u'.2.2.2.2.2.2.2.2.2.2.2.2.2.2.2.2.2.2.2.1 u'.2.2.2.2.2.2.2.2.2.2.2.2.2.2.2.2.2.2.2.2.1 u'.2.2.2.2.2.2.2.2.2.2.2.2.2.2.2.2.2.2.2.2.2.1 u'.2.2.2.2.2.2.2.2.2.2.2.2.2.2.2.2.2.2.2.2.2.2.1 u'.2.2.2.2.2.2.2.2.2.2.2.2.2.2.2.2.2.2.2.2.2.2.2.1 u'.2.2.2.2.2.2.2.2.2.2.2.2.2.2.2.2.2.2.2.2.2.2.2.2.1 u'.2.2.2.2.2.2.2.2.2.2.2.2.2.2.2.2.2.2.2.2.2.2.2.2.2.1 u'.2.2.2.2.2.2.2.2.2.2.2.2.2.2.2.2.2.2.2.2.2.2.2.2.2.2.1 u'.2.2.2.2.2.2.2.2.2.2.2.2.2.2.2.2.2.2.2.2.2.2.2.2.2.2.2) : ∃ f, wL_law_793 post L xs J x2 x4 x7 (nI l) (nI n) kc ks f 0 u.1 u.2.1 u.2.2.1 u.2.2.2.1 u.2.2.2.2.1 u.2.2.2.2.2.1 u.2.2.2.2.2.2.1 u.2.2.2.2.2.2.2.1 u.2.2.2.2.2.2.2.2.1 u.2.2.2.2.2.2.2.2.2.1 u.2.2.2.2.2.2.2.2.2.2.1 u.2.2.2.2.2.2.2.2.2.2.2.1 u.2.2.2.2.2.2.2.2.2.2.2.2.1 u.2.2.2.2.2.2.2.2.2.2.2.2.2.1 u.2.2.2.2.2.2.2.2.2.2.2.2.2.2.1 u.2.2.2.2.2.2.2.2.2.2.2.2.2.2.2.1 u.2.2.2.2.2.2.2.2.2.2.2.2.2.2.2.2.1 u.2.2.2.2.2.2.2.2.2.2.2.2.2.2.2.2.2.1 u.2.2.2.2.2.2.2.2.2.2.2.2.2.2.2.2.2.2.1 u.2.2.2.2.2.2.2.2.2.2.2.2.2.2.2.2.2.2.2.1 u.2.2.2.2.2.2.2.2.2.2.2.2.2.2.2.2.2.2.2.2.1 u.2.2.2.2.2.2.2.2.2.2.2.2.2.2.2.2.2.2.2.2.2.1 u.2.2.2.2.2.2.2.2.2.2.2.2.2.2.2.2.2.2.2.2.2.2.1 u.2.2.2.2.2.2.2.2.2.2.2.2.2.2.2.2.2.2.2.2.2.2.2.1 u.2.2.2.2.2.2.2.2.2.2.2.2.2.2.2.2.2.2.2.2.2.2.2.2.1 u.2.2.2.2.2.2.2.2.2.2.2.2.2.2.2.2.2.2.2.2.2.2.2.2.2.1 u.2.2.2.2.2.2.2.2.2.2.2.2.2.2.2.2.2.2.2.2.2.2.2.2.2.2.1 u.2.2.2.2.2.2.2.2.2.2.2.2.2.2.2.2.2.2.2.2.2.2.2.2.2.2.2 := by
  have hr : la_row (X l) := (hI.1.1.2.2.1 l (by omega)).1
  have hl8 := hr.2.1
  have hXn : (X n).length = (X l).length := by rw [hX]
  refine pk_loop (σ := St1) (fun f i v => wL_law_793 post L xs J x2 x4 x7 (nI l) (nI n) kc ks f (nI i) v.1 v.2.1 v.2.2.1 v.2.2.2.1 v.2.2.2.2.1 v.2.2.2.2.2.1 v.2.2.2.2.2.2.1 v.2.2.2.2.2.2.2.1 v.2.2.2.2.2.2.2.2.1 v.2.2.2.2.2.2.2.2.2.1 v.2.2.2.2.2.2.2.2.2.2.1 v.2.2.2.2.2.2.2.2.2.2.2.1 v.2.2.2.2.2.2.2.2.2.2.2.2.1 v.2.2.2.2.2.2.2.2.2.2.2.2.2.1 v.2.2.2.2.2.2.2.2.2.2.2.2.2.2.1 v.2.2.2.2.2.2.2.2.2.2.2.2.2.2.2.1 v.2.2.2.2.2.2.2.2.2.2.2.2.2.2.2.2.1 v.2.2.2.2.2.2.2.2.2.2.2.2.2.2.2.2.2.1 v.2.2.2.2.2.2.2.2.2.2.2.2.2.2.2.2.2.2.1 v.2.2.2.2.2.2.2.2.2.2.2.2.2.2.2.2.2.2.2.1 v.2.2.2.2.2.2.2.2.2.2.2.2.2.2.2.2.2.2.2.2.1 v.2.2.2.2.2.2.2.2.2.2.2.2.2.2.2.2.2.2.2.2.2.1 v.2.2.2.2.2.2.2.2.2.2.2.2.2.2.2.2.2.2.2.2.2.2.1 v.2.2.2.2.2.2.2.2.2.2.2.2.2.2.2.2.2.2.2.2.2.2.2.1 v.2.2.2.2.2.2.2.2.2.2.2.2.2.2.2.2.2.2.2.2.2.2.2.2.1 v.2.2.2.2.2.2.2.2.2.2.2.2.2.2.2.2.2.2.2.2.2.2.2.2.2.1 v.2.2.2.2.2.2.2.2.2.2.2.2.2.2.2.2.2.2.2.2.2.2.2.2.2.2.1 v.2.2.2.2.2.2.2.2.2.2.2.2.2.2.2.2.2.2.2.2.2.2.2.2.2.2.2) (fun i v => la_I (n + 1) k T X S SL v ∧ la_dr ((X l).take i) v.2.1 v.2.2.2.2.2.2.2.2.2.1 ∧ v.2.2.2.2.2.1 = 0) (X l).length 0 u (by omega) ⟨hI, ⟨hpc, fun i h => absurd h (by simp)⟩, hfi⟩
    (fun f v h => ?_) (fun f i v hi h hw => ?_)
  · obtain ⟨hI, hd, hf⟩ := h
    rw [List.take_length] at hd
    have hF : la_F (n + 1) k T X S SL (X l) v := ⟨hI, hd, Or.inl hf⟩
    unfold wL_law_793
    refine la_lengthQ (u := v) hI (show l < n + 1 by omega) ?_
    refine pk_le (X l).length (X l).length (fun _ => ?_) (fun z => absurd z (by omega))
    have h1 : (0 ≤ nI l - 1 ∧ nI l - 1 < 60 ∧ nI l - 1 + 1 = nI l) ∨ (¬ 0 ≤ nI l - 1 ∧ l = 0) := by
      by_cases e : l = 0
      · right
        subst e
        exact ⟨by decide, rfl⟩
      · left
        rw [la_m1 (show 0 < l by omega)]
        refine ⟨nI_pos' (by omega), nI_lt (b := 60) (by omega) (by omega), ?_⟩
        rw [nI_1]
        congr 1
        omega
    have h2 : (0 ≤ nI n - 1 ∧ nI n - 1 < 60 ∧ nI n - 1 + 1 = nI n) ∨ (¬ 0 ≤ nI n - 1 ∧ n = 0) := by
      left
      rw [la_m1 (show 0 < n by omega)]
      refine ⟨nI_pos' (by omega), nI_lt (b := 60) (by omega) (by omega), ?_⟩
      rw [nI_1]
      congr 1
      omega
    have h3 : (0 ≤ nI n ∧ nI n < 60 ∧ nI n + 1 = nI (n + 1)) ∨ (¬ 0 ≤ nI n ∧ n + 1 = 0) := Or.inl ⟨nI_pos' (by omega), nI_lt (b := 60) (by omega) (by omega), nI_1 n⟩
    refine la_next (u := v) hF hr (by omega) h1 (fun g v1 hF1 g1 g2 g3 g4 => br_t ?_ ?_) (fun v1 hF1 g => absurd rfl (g l (by omega) (by omega)))
    · have : g = l := by
        rcases Nat.lt_or_ge l g with z | z
        · exact absurd rfl (g4 l (by omega) z)
        · omega
      rw [this]
    refine la_next (u := v1) hF1 hr (by omega) h2 (fun g' v2 hF2 g1 g2 g3 g4 => br_t ?_ ?_) (fun v1 hF1 g => absurd hX (g n (by omega) (by omega)))
    · have : g' = n := by omega
      rw [this]
    refine la_next (u := v2) hF2 hr (by omega) h3 (fun g v3 hF3 g1 g2 g3 g4 => absurd g2 (by omega)) (fun v3 hF3 _ => br_t rfl ?_)
    refine la_fittingGroups (u := v3) hF3 hr (show l < n + 1 by omega) rfl (fun v4 hF4 => br_t rfl (nm_e ?_))
    exact H v4 hF4.1
  · obtain ⟨hI, hd, hf⟩ := h
    unfold wL_law_793
    refine la_lengthQ (u := v) hI (show l < n + 1 by omega) ?_
    refine pk_le (X l).length i (fun z => absurd z (by omega)) (fun _ => ?_)
    refine la_atQ (u := v) hI (show n < n + 1 by omega) (by omega) (fun v1 e1 => ?_)
    refine la_atQ (u := v1) (la_I_q e1 hI) (show l < n + 1 by omega) hi (fun v2 e2 => br_t (by rw [hX]) ?_)
    refine la_atQ (u := v2) (la_I_q (e2.trans e1) hI) (show l < n + 1 by omega) hi (fun v3 e3 => ?_)
    have e4 := e3.trans (e2.trans e1)
    obtain ⟨p1, p2, p3⟩ := la_q_p e4
    refine la_partQ (u := v3) (d := (X l).take i) (by rw [p1, p2]; exact hd) (by rw [List.length_take]; omega) (la_get_ok hr hi) (fun c b g => nm_r (nI_1 i) (hw (v3.1, c, v3.2.2.1, v3.2.2.2.1, v3.2.2.2.2.1, 0, v3.2.2.2.2.2.2.1, v3.2.2.2.2.2.2.2.1, v3.2.2.2.2.2.2.2.2.1, b, v3.2.2.2.2.2.2.2.2.2.2.1, v3.2.2.2.2.2.2.2.2.2.2.2.1, v3.2.2.2.2.2.2.2.2.2.2.2.2.1, v3.2.2.2.2.2.2.2.2.2.2.2.2.2.1, v3.2.2.2.2.2.2.2.2.2.2.2.2.2.2.1, v3.2.2.2.2.2.2.2.2.2.2.2.2.2.2.2.1, v3.2.2.2.2.2.2.2.2.2.2.2.2.2.2.2.2.1, v3.2.2.2.2.2.2.2.2.2.2.2.2.2.2.2.2.2.1, v3.2.2.2.2.2.2.2.2.2.2.2.2.2.2.2.2.2.2.1, v3.2.2.2.2.2.2.2.2.2.2.2.2.2.2.2.2.2.2.2.1, v3.2.2.2.2.2.2.2.2.2.2.2.2.2.2.2.2.2.2.2.2.1, v3.2.2.2.2.2.2.2.2.2.2.2.2.2.2.2.2.2.2.2.2.2.1, v3.2.2.2.2.2.2.2.2.2.2.2.2.2.2.2.2.2.2.2.2.2.2.1, v3.2.2.2.2.2.2.2.2.2.2.2.2.2.2.2.2.2.2.2.2.2.2.2.1, v3.2.2.2.2.2.2.2.2.2.2.2.2.2.2.2.2.2.2.2.2.2.2.2.2.1, v3.2.2.2.2.2.2.2.2.2.2.2.2.2.2.2.2.2.2.2.2.2.2.2.2.2.1, v3.2.2.2.2.2.2.2.2.2.2.2.2.2.2.2.2.2.2.2.2.2.2.2.2.2.2.1, v3.2.2.2.2.2.2.2.2.2.2.2.2.2.2.2.2.2.2.2.2.2.2.2.2.2.2.2) ⟨?_, ?_, rfl⟩))
    · have hI3 := la_I_q e4 hI
      exact hI3
    · rw [la_take_n hi]
      exact g
theorem la_c_add {S : Nat → Nat} {n s : Nat} (r : Nat) : la_c (la_p S n s) (n + 1) r = la_c S n r + (if s = r then 1 else 0) := by
  show la_cn (fun j => decide (la_p S n s j = r)) n + (if decide (la_p S n s n = r) = true then 1 else 0) = _
  rw [la_p_s]
  have e : la_cn (fun j => decide (la_p S n s j = r)) n = la_c S n r := la_cn_congr (fun j hj => by rw [la_p_n (by omega)])
  rw [e]
  by_cases z : s = r
  · rw [if_pos z, if_pos (decide_eq_true z)]
  · rw [if_neg z, if_neg (by simp [z])]
theorem la_h_add {X : Nat → List Nat} {n x : Nat} {d : List Nat} (h : x ∈ d) : la_cn (fun j => decide (x ∈ la_p X n d j)) (n + 1) = la_cn (fun j => decide (x ∈ X j)) n + 1 := by
  rw [la_cn_succ, la_p_s, if_pos (decide_eq_true h)]
  congr 1
  exact la_cn_congr (fun j hj => by rw [la_p_n (by omega)])
theorem la_law625 {post : Int32 → Prop} {L : Nat} {xs : Nat → Int32} {kc ks : Nat} {u : St1} {m k b : Nat} {T : Nat → Nat} {X : Nat → List Nat} {S : Nat → Nat} {SL : Nat → List Nat}
    (hL : L ≤ 260) (hI : la_I m k T X S SL u) (hm : m ≤ 50) (hT : ∀ l, l < m → T l ≤ b) (hb : b ≤ 900) (H : post 1) : ∃ f, wL_law_625 post L xs (nI m) (nI k) kc ks f 0 u.1 u.2.1 u.2.2.1 u.2.2.2.1 u.2.2.2.2.1 u.2.2.2.2.2.1 u.2.2.2.2.2.2.1 u.2.2.2.2.2.2.2.1 u.2.2.2.2.2.2.2.2.1 u.2.2.2.2.2.2.2.2.2.1 u.2.2.2.2.2.2.2.2.2.2.1 u.2.2.2.2.2.2.2.2.2.2.2.1 u.2.2.2.2.2.2.2.2.2.2.2.2.1 u.2.2.2.2.2.2.2.2.2.2.2.2.2.1 u.2.2.2.2.2.2.2.2.2.2.2.2.2.2.1 u.2.2.2.2.2.2.2.2.2.2.2.2.2.2.2.1 u.2.2.2.2.2.2.2.2.2.2.2.2.2.2.2.2.1 u.2.2.2.2.2.2.2.2.2.2.2.2.2.2.2.2.2.1 u.2.2.2.2.2.2.2.2.2.2.2.2.2.2.2.2.2.2.1 u.2.2.2.2.2.2.2.2.2.2.2.2.2.2.2.2.2.2.2.1 u.2.2.2.2.2.2.2.2.2.2.2.2.2.2.2.2.2.2.2.2.1 u.2.2.2.2.2.2.2.2.2.2.2.2.2.2.2.2.2.2.2.2.2.1 u.2.2.2.2.2.2.2.2.2.2.2.2.2.2.2.2.2.2.2.2.2.2.1 u.2.2.2.2.2.2.2.2.2.2.2.2.2.2.2.2.2.2.2.2.2.2.2.1 u.2.2.2.2.2.2.2.2.2.2.2.2.2.2.2.2.2.2.2.2.2.2.2.2.1 u.2.2.2.2.2.2.2.2.2.2.2.2.2.2.2.2.2.2.2.2.2.2.2.2.2.1 u.2.2.2.2.2.2.2.2.2.2.2.2.2.2.2.2.2.2.2.2.2.2.2.2.2.2.1 u.2.2.2.2.2.2.2.2.2.2.2.2.2.2.2.2.2.2.2.2.2.2.2.2.2.2.2 := by
  refine pk_loop (σ := St1) (fun f r v => wL_law_625 post L xs (nI m) (nI k) kc ks f (nI r) v.1 v.2.1 v.2.2.1 v.2.2.2.1 v.2.2.2.2.1 v.2.2.2.2.2.1 v.2.2.2.2.2.2.1 v.2.2.2.2.2.2.2.1 v.2.2.2.2.2.2.2.2.1 v.2.2.2.2.2.2.2.2.2.1 v.2.2.2.2.2.2.2.2.2.2.1 v.2.2.2.2.2.2.2.2.2.2.2.1 v.2.2.2.2.2.2.2.2.2.2.2.2.1 v.2.2.2.2.2.2.2.2.2.2.2.2.2.1 v.2.2.2.2.2.2.2.2.2.2.2.2.2.2.1 v.2.2.2.2.2.2.2.2.2.2.2.2.2.2.2.1 v.2.2.2.2.2.2.2.2.2.2.2.2.2.2.2.2.1 v.2.2.2.2.2.2.2.2.2.2.2.2.2.2.2.2.2.1 v.2.2.2.2.2.2.2.2.2.2.2.2.2.2.2.2.2.2.1 v.2.2.2.2.2.2.2.2.2.2.2.2.2.2.2.2.2.2.2.1 v.2.2.2.2.2.2.2.2.2.2.2.2.2.2.2.2.2.2.2.2.1 v.2.2.2.2.2.2.2.2.2.2.2.2.2.2.2.2.2.2.2.2.2.1 v.2.2.2.2.2.2.2.2.2.2.2.2.2.2.2.2.2.2.2.2.2.2.1 v.2.2.2.2.2.2.2.2.2.2.2.2.2.2.2.2.2.2.2.2.2.2.2.1 v.2.2.2.2.2.2.2.2.2.2.2.2.2.2.2.2.2.2.2.2.2.2.2.2.1 v.2.2.2.2.2.2.2.2.2.2.2.2.2.2.2.2.2.2.2.2.2.2.2.2.2.1 v.2.2.2.2.2.2.2.2.2.2.2.2.2.2.2.2.2.2.2.2.2.2.2.2.2.2.1 v.2.2.2.2.2.2.2.2.2.2.2.2.2.2.2.2.2.2.2.2.2.2.2.2.2.2.2) (fun r v => ∃ T X S SL, la_I (m + r) k T X S SL v ∧ (∀ l, l < m + r → T l ≤ b + 3 * r)) 3 0 u (by omega) ⟨T, X, S, SL, hI, hT⟩
    (fun f v h => pk_le 3 3 (fun _ => H) (fun z => absurd z (by omega))) (fun f r v hr h hw => pk_le 3 r (fun z => absurd z (by omega)) (fun _ => pk_le m 0 (fun _ => H) (fun hm0 => ?_)))
  obtain ⟨T, X, S, SL, hI, hT⟩ := h
  rw [show (23 : Int32) + nI r = nI (23 + r) from nI_add 23 r, show (26 : Int32) + nI r = nI (26 + r) from nI_add 26 r]
  refine la_cell hL (by omega) (fun x => ⟨nI_ne0 hm0 (by omega), ?_⟩)
  obtain ⟨a, ha, ea⟩ := pk_andE x (m := 2147483647) 31 (by decide)
  have hlm := Nat.mod_lt a hm0
  refine nm_r (e' := nI (a % m)) (by rw [ea]; exact pk_rem ha hm0 (by omega)) ?_
  generalize a % m = l at hlm
  have hln : l < m + r := by omega
  obtain ⟨hrow, hTl, hsk, hSL⟩ := hI.1.1.2.2.1 l hln
  have hlen1 := hrow.1
  refine la_membersQ (u := v) hI hln ?_
  refine la_atQ (u := v) (i := 0) hI hln (by omega) (fun v1 e1 => ?_)
  have hI1 := la_I_q e1 hI
  have hx0 := la_get_ok hrow (show 0 < (X l).length by omega)
  have hx0m : (X l).getD 0 0 ∈ X l := la_mem.mpr ⟨0, by omega, rfl⟩
  refine la_havingQ (u := v1) hI1 hx0 (fun v2 e2 => ?_)
  have hI2 := la_I_q e2 hI1
  refine la_linesQ (u := v2) hI2 ?_
  rw [la_m1 (show 0 < m + r by omega)]
  refine la_timeQ (u := v2) hI2 (by omega) (la_cell hL (by omega) (fun y => ?_))
  obtain ⟨q, hq, eq⟩ := pk_andE y (m := 3) 2 (by decide)
  have hTn := hT (m + r - 1) (by omega)
  refine nm_r (e' := nI (T (m + r - 1) + q)) (by rw [eq]; exact nI_add _ _) (la_linesQ (u := v2) hI2 ?_)
  refine la_recall (u := v2) hI2 hln (fun fr b1 b16 b17 g => ?_)
  refine la_lengthQ (u := (nI (X l).length, v2.2.1, v2.2.2.1, v2.2.2.2.1, v2.2.2.2.2.1, v2.2.2.2.2.2.1, v2.2.2.2.2.2.2.1, fr, b1, v2.2.2.2.2.2.2.2.2.2.1, v2.2.2.2.2.2.2.2.2.2.2.1, v2.2.2.2.2.2.2.2.2.2.2.2.1, v2.2.2.2.2.2.2.2.2.2.2.2.2.1, v2.2.2.2.2.2.2.2.2.2.2.2.2.2.1, v2.2.2.2.2.2.2.2.2.2.2.2.2.2.2.1, v2.2.2.2.2.2.2.2.2.2.2.2.2.2.2.2.1, v2.2.2.2.2.2.2.2.2.2.2.2.2.2.2.2.2.1, v2.2.2.2.2.2.2.2.2.2.2.2.2.2.2.2.2.2.1, v2.2.2.2.2.2.2.2.2.2.2.2.2.2.2.2.2.2.2.1, v2.2.2.2.2.2.2.2.2.2.2.2.2.2.2.2.2.2.2.2.1, v2.2.2.2.2.2.2.2.2.2.2.2.2.2.2.2.2.2.2.2.2.1, v2.2.2.2.2.2.2.2.2.2.2.2.2.2.2.2.2.2.2.2.2.2.1, v2.2.2.2.2.2.2.2.2.2.2.2.2.2.2.2.2.2.2.2.2.2.2.1, b16, b17, v2.2.2.2.2.2.2.2.2.2.2.2.2.2.2.2.2.2.2.2.2.2.2.2.2.2.1, v2.2.2.2.2.2.2.2.2.2.2.2.2.2.2.2.2.2.2.2.2.2.2.2.2.2.2.1, v2.2.2.2.2.2.2.2.2.2.2.2.2.2.2.2.2.2.2.2.2.2.2.2.2.2.2.2)) (n := m + r) (k := k) (T := T) (X := X) (S := S) (SL := SL) hI2 hln (br_t rfl ?_)
  refine la_write (u := (nI (X l).length, v2.2.1, v2.2.2.1, v2.2.2.2.1, v2.2.2.2.2.1, v2.2.2.2.2.2.1, v2.2.2.2.2.2.2.1, fr, b1, v2.2.2.2.2.2.2.2.2.2.1, v2.2.2.2.2.2.2.2.2.2.2.1, v2.2.2.2.2.2.2.2.2.2.2.2.1, v2.2.2.2.2.2.2.2.2.2.2.2.2.1, v2.2.2.2.2.2.2.2.2.2.2.2.2.2.1, v2.2.2.2.2.2.2.2.2.2.2.2.2.2.2.1, v2.2.2.2.2.2.2.2.2.2.2.2.2.2.2.2.1, v2.2.2.2.2.2.2.2.2.2.2.2.2.2.2.2.2.1, v2.2.2.2.2.2.2.2.2.2.2.2.2.2.2.2.2.2.1, v2.2.2.2.2.2.2.2.2.2.2.2.2.2.2.2.2.2.2.1, v2.2.2.2.2.2.2.2.2.2.2.2.2.2.2.2.2.2.2.2.1, v2.2.2.2.2.2.2.2.2.2.2.2.2.2.2.2.2.2.2.2.2.1, v2.2.2.2.2.2.2.2.2.2.2.2.2.2.2.2.2.2.2.2.2.2.1, v2.2.2.2.2.2.2.2.2.2.2.2.2.2.2.2.2.2.2.2.2.2.2.1, b16, b17, v2.2.2.2.2.2.2.2.2.2.2.2.2.2.2.2.2.2.2.2.2.2.2.2.2.2.1, v2.2.2.2.2.2.2.2.2.2.2.2.2.2.2.2.2.2.2.2.2.2.2.2.2.2.2.1, v2.2.2.2.2.2.2.2.2.2.2.2.2.2.2.2.2.2.2.2.2.2.2.2.2.2.2.2)) (n := m + r) (k := k) (T := T) (X := X) (S := S) (SL := SL) (d := X l) hI2 hrow g (by omega) (by omega) (fun _ => by omega) (fun k' SL' s u4 y1 y2 y3 => br_t rfl ?_)
  have A1 := y1.1.1.2.2.1 (m + r) (by omega)
  have A2 := y1.1.1.2.2.1 l (by omega)
  rw [la_p_s, la_p_s, la_p_s] at A1
  rw [la_p_n (show l ≠ m + r by omega), la_p_n (show l ≠ m + r by omega), la_p_n (show l ≠ m + r by omega)] at A2
  have es : s = S l := y1.1.1.2.2.2.1 _ _ A1.2.2.1 A2.2.2.1 (by rw [A1.2.2.2, A2.2.2.2])
  have ek : k' = k := by omega
  subst ek es
  have eS : la_p S (m + r) (S l) l = S l := la_p_n (by omega)
  have eX : la_p X (m + r) (X l) l = X l := la_p_n (by omega)
  have hXrow : (la_p X (m + r) (X l) l).length = (X l).length := by rw [eX]
  refine la_groupQ (u := u4) y1 (show m + r < m + r + 1 by omega) (fun f1 _ p1 => ?_)
  refine la_groupQ (u := u4) y1 (show l < m + r + 1 by omega) (fun f2 _ p2 => ?_)
  rw [la_p_s] at p1
  rw [eS] at p2
  refine br_t (by rw [la_fst_u p1 p2]) ?_
  refine la_membersQ (u := u4) y1 (show l < m + r + 1 by omega) (br_t ?_ ?_)
  · rw [eS, la_c_add, if_pos rfl, nI_1]
  refine la_atQ (u := u4) (i := 0) y1 (show l < m + r + 1 by omega) (by omega) (fun v5 e5 => ?_)
  rw [eX]
  refine la_havingQ (u := v5) (la_I_q e5 y1) hx0 (fun v6 e6 => br_t ?_ ?_)
  · rw [la_h_add hx0m, nI_1]
  have hI6 := la_I_q e6 (la_I_q e5 y1)
  refine la_groupsQ (u := v6) hI6 (br_t rfl ?_)
  refine la_blank (u := v6) ?_
  refine la_law793 (u := (v6.1, 0, v6.2.2.1, v6.2.2.2.1, v6.2.2.2.2.1, 0, v6.2.2.2.2.2.2.1, v6.2.2.2.2.2.2.2.1, v6.2.2.2.2.2.2.2.2.1, v6.2.2.2.2.2.2.2.2.2.1, v6.2.2.2.2.2.2.2.2.2.2.1, v6.2.2.2.2.2.2.2.2.2.2.2.1, v6.2.2.2.2.2.2.2.2.2.2.2.2.1, v6.2.2.2.2.2.2.2.2.2.2.2.2.2.1, v6.2.2.2.2.2.2.2.2.2.2.2.2.2.2.1, v6.2.2.2.2.2.2.2.2.2.2.2.2.2.2.2.1, v6.2.2.2.2.2.2.2.2.2.2.2.2.2.2.2.2.1, v6.2.2.2.2.2.2.2.2.2.2.2.2.2.2.2.2.2.1, v6.2.2.2.2.2.2.2.2.2.2.2.2.2.2.2.2.2.2.1, v6.2.2.2.2.2.2.2.2.2.2.2.2.2.2.2.2.2.2.2.1, v6.2.2.2.2.2.2.2.2.2.2.2.2.2.2.2.2.2.2.2.2.1, v6.2.2.2.2.2.2.2.2.2.2.2.2.2.2.2.2.2.2.2.2.2.1, v6.2.2.2.2.2.2.2.2.2.2.2.2.2.2.2.2.2.2.2.2.2.2.1, v6.2.2.2.2.2.2.2.2.2.2.2.2.2.2.2.2.2.2.2.2.2.2.2.1, v6.2.2.2.2.2.2.2.2.2.2.2.2.2.2.2.2.2.2.2.2.2.2.2.2.1, v6.2.2.2.2.2.2.2.2.2.2.2.2.2.2.2.2.2.2.2.2.2.2.2.2.2.1, v6.2.2.2.2.2.2.2.2.2.2.2.2.2.2.2.2.2.2.2.2.2.2.2.2.2.2.1, v6.2.2.2.2.2.2.2.2.2.2.2.2.2.2.2.2.2.2.2.2.2.2.2.2.2.2.2)) (n := m + r) (l := l) (k := k') (T := la_p T (m + r) (T (m + r - 1) + q)) (X := la_p X (m + r) (X l)) (S := la_p S (m + r) (S l)) (SL := SL') hI6 (by omega) hln (by rw [la_p_s, eX]) rfl rfl (fun v7 h7 => ?_)
  rw [nI_1]
  refine hw v7 ⟨_, _, _, _, h7, fun j hj => ?_⟩
  by_cases e : j = m + r
  · rw [e, la_p_s]
    omega
  · rw [la_p_n e]
    have := hT j (by omega)
    omega
end
section
/-! the law's columns and pairs of lines -/
theorem la_su_ge {S v : Nat → Nat} {s lo : Nat} : ∀ {n : Nat}, (∀ j, j < n → S j = s → lo ≤ v j) → lo * la_c S n s ≤ la_su S v s n
  | 0, _ => Nat.le_refl _
  | n + 1, h => by
    have h1 := la_su_ge (S := S) (v := v) (s := s) (lo := lo) (n := n) (fun j hj => h j (by omega))
    show lo * (la_c S n s + (if decide (S n = s) = true then 1 else 0)) ≤ la_su S v s n + (if S n = s then v n else 0)
    by_cases e : S n = s
    · rw [if_pos e, if_pos (decide_eq_true e), Nat.mul_add, Nat.mul_one]
      have := h n (by omega) e
      omega
    · rw [if_neg e, if_neg (by simp [e])]
      exact h1
theorem la_su_le {S v : Nat → Nat} {s hi : Nat} : ∀ {n : Nat}, (∀ j, j < n → S j = s → v j ≤ hi) → la_su S v s n ≤ hi * la_c S n s
  | 0, _ => Nat.le_refl _
  | n + 1, h => by
    have h1 := la_su_le (S := S) (v := v) (s := s) (hi := hi) (n := n) (fun j hj => h j (by omega))
    show la_su S v s n + (if S n = s then v n else 0) ≤ hi * (la_c S n s + (if decide (S n = s) = true then 1 else 0))
    by_cases e : S n = s
    · rw [if_pos e, if_pos (decide_eq_true e), Nat.mul_add, Nat.mul_one]
      have := h n (by omega) e
      omega
    · rw [if_neg e, if_neg (by simp [e])]
      exact h1
theorem la_colT {post : Int32 → St1 → Prop} {u : St1} {n k l i : Nat} {T : Nat → Nat} {X : Nat → List Nat} {S : Nat → Nat} {SL : Nat → List Nat} (w : Nat) (hI : la_I n k T X S SL u) (hl : l < n) (hi : i < (X l).length) (hx : 1000 ≤ (X l).getD i 0) (hw : w < 3)
    (H : ∀ u' lo hi, la_q u' = la_q u → la_min S (la_v X i) (S l) n lo → la_max S (la_v X i) (S l) n hi → post (if w = 0 then nI lo else if w = 1 then nI hi else nI (la_su S (la_v X i) (S l) n)) u') : wpX_column post u (nI l) (nI i) (nI w) := by
  obtain ⟨hr, hT, hsk, hSL⟩ := hI.1.1.2.2.1 l hl
  refine la_colW hI hl hi (by omega) (fun z => absurd z (by omega)) (fun _ z => absurd z (by omega)) (fun _ _ => ?_)
  exact la_totalIn hI hsk (by rw [hSL, List.length_map]; exact hi) (by rw [hSL, la_getD_map hi, la_bl_n hx]) hw H
theorem la_colD {post : Int32 → St1 → Prop} {u : St1} {n k l i : Nat} {T : Nat → Nat} {X : Nat → List Nat} {S : Nat → Nat} {SL : Nat → List Nat} (hI : la_I n k T X S SL u) (hl : l < n) (hi : i < (X l).length) (hx : 1000 ≤ (X l).getD i 0)
    (H : ∀ u' D, la_q u' = la_q u → 1 ≤ D → D ≤ la_c S n (S l) → (D = 1 ↔ ∀ j j', j < n → j' < n → S j = S l → S j' = S l → la_v X i j = la_v X i j') → post (nI D) u') : wpX_column post u (nI l) (nI i) (nI 3) := by
  obtain ⟨hr, hT, hsk, hSL⟩ := hI.1.1.2.2.1 l hl
  refine la_colW hI hl hi (by omega) (fun z => absurd z (by omega)) (fun _ _ => ?_) (fun _ z => absurd z (by omega))
  exact la_differentIn hI hsk (by rw [hSL, List.length_map]; exact hi) (by rw [hSL, la_getD_map hi, la_bl_n hx]) H
theorem la_colN {post : Int32 → St1 → Prop} {u : St1} {n k l i : Nat} {T : Nat → Nat} {X : Nat → List Nat} {S : Nat → Nat} {SL : Nat → List Nat} (w : Nat) (hI : la_I n k T X S SL u) (hl : l < n) (hi : i < (X l).length) (hx : (X l).getD i 0 < 1000) (hw : w ≤ 3)
    (H : post (-2) u) : wpX_column post u (nI l) (nI i) (nI w) :=
  la_colW hI hl hi hw (fun _ => H) (fun z => absurd z (by omega)) (fun z => absurd z (by omega))
theorem la_law392 {post : Int32 → Prop} {L : Nat} {xs : Nat → Int32} {J : Int32 → Int32 → Int32 → Int32 → Int32 → Int32 → Int32 → Int64 → Int32 → (Nat → Int32) → (Nat → Int32) → (Nat → Int32) → (Nat → Int32) → (Nat → Int32) → (Nat → Int32) → (Nat → Int32) → (Nat → Int32) → (Nat → Int64) → (Nat → Int32) → (Nat → Int64) → (Nat → Int32) → (Nat → Int32) → (Nat → Int32) → (Nat → Int32) → (Nat → Int32) → (Nat → Int32) → (Nat → Int32) → (Nat → Int32) → (Nat → Int32) → Prop} {x2 x4 : Int32} {kc ks : Nat} {u : St1} {n k l f : Nat} {T : Nat → Nat} {X : Nat → List Nat} {S : Nat → Nat} {SL : Nat → List Nat}
    (hI : la_I n k T X S SL u) (hl : l < n) (hf : f ≤ l) (hS : S f = S l)
    (H : ∀ u', la_q u' = la_q u → J (nI (l + 1)) u'.1 u'.2.1 u'.2.2.1 u'.2.2.2.1 u'.2.2.2.2.1 u'.2.2.2.2.2.1 u'.2.2.2.2.2.2.1 u'.2.2.2.2.2.2.2.1 u'.2.2.2.2.2.2.2.2.1 u'.2.2.2.2.2.2.2.2.2.1 u'.2.2.2.2.2.2.2.2.2.2.1 u'.2.2.2.2.2.2.2.2.2.2.2.1 u'.2.2.2.2.2.2.2.2.2.2.2.2.1 u'.2.2.2.2.2.2.2.2.2.2.2.2.2.1 u'.2.2.2.2.2.2.2.2.2.2.2.2.2.2.1 u'.2.2.2.2.2.2.2.2.2.2.2.2.2.2.2.1 u'.2.2.2.2.2.2.2.2.2.2.2.2.2.2.2.2.1 u'.2.2.2.2.2.2.2.2.2.2.2.2.2.2.2.2.2.1 u'.2.2.2.2.2.2.2.2.2.2.2.2.2.2.2.2.2.2.1 u'.2.2.2.2.2.2.2.2.2.2.2.2.2.2.2.2.2.2.2.1 u'.2.2.2.2.2.2.2.2.2.2.2.2.2.2.2.2.2.2.2.2.1 u'.2.2.2.2.2.2.2.2.2.2.2.2.2.2.2.2.2.2.2.2.2.1 u'.2.2.2.2.2.2.2.2.2.2.2.2.2.2.2.2.2.2.2.2.2.2.1 u'.2.2.2.2.2.2.2.2.2.2.2.2.2.2.2.2.2.2.2.2.2.2.2.1 u'.2.2.2.2.2.2.2.2.2.2.2.2.2.2.2.2.2.2.2.2.2.2.2.2.1 u'.2.2.2.2.2.2.2.2.2.2.2.2.2.2.2.2.2.2.2.2.2.2.2.2.2.1 u'.2.2.2.2.2.2.2.2.2.2.2.2.2.2.2.2.2.2.2.2.2.2.2.2.2.2.1 u'.2.2.2.2.2.2.2.2.2.2.2.2.2.2.2.2.2.2.2.2.2.2.2.2.2.2.2) : ∃ g, wL_law_392 post L xs J x2 x4 (nI l) (nI f) (nI (la_c S n (S l))) kc ks g 0 u.1 u.2.1 u.2.2.1 u.2.2.2.1 u.2.2.2.2.1 u.2.2.2.2.2.1 u.2.2.2.2.2.2.1 u.2.2.2.2.2.2.2.1 u.2.2.2.2.2.2.2.2.1 u.2.2.2.2.2.2.2.2.2.1 u.2.2.2.2.2.2.2.2.2.2.1 u.2.2.2.2.2.2.2.2.2.2.2.1 u.2.2.2.2.2.2.2.2.2.2.2.2.1 u.2.2.2.2.2.2.2.2.2.2.2.2.2.1 u.2.2.2.2.2.2.2.2.2.2.2.2.2.2.1 u.2.2.2.2.2.2.2.2.2.2.2.2.2.2.2.1 u.2.2.2.2.2.2.2.2.2.2.2.2.2.2.2.2.1 u.2.2.2.2.2.2.2.2.2.2.2.2.2.2.2.2.2.1 u.2.2.2.2.2.2.2.2.2.2.2.2.2.2.2.2.2.2.1 u.2.2.2.2.2.2.2.2.2.2.2.2.2.2.2.2.2.2.2.1 u.2.2.2.2.2.2.2.2.2.2.2.2.2.2.2.2.2.2.2.2.1 u.2.2.2.2.2.2.2.2.2.2.2.2.2.2.2.2.2.2.2.2.2.1 u.2.2.2.2.2.2.2.2.2.2.2.2.2.2.2.2.2.2.2.2.2.2.1 u.2.2.2.2.2.2.2.2.2.2.2.2.2.2.2.2.2.2.2.2.2.2.2.1 u.2.2.2.2.2.2.2.2.2.2.2.2.2.2.2.2.2.2.2.2.2.2.2.2.1 u.2.2.2.2.2.2.2.2.2.2.2.2.2.2.2.2.2.2.2.2.2.2.2.2.2.1 u.2.2.2.2.2.2.2.2.2.2.2.2.2.2.2.2.2.2.2.2.2.2.2.2.2.2.1 u.2.2.2.2.2.2.2.2.2.2.2.2.2.2.2.2.2.2.2.2.2.2.2.2.2.2.2 := by
  obtain ⟨hr, hTl, hsk, hSL⟩ := hI.1.1.2.2.1 l hl
  have hn60 := hI.1.1.1
  have hl8 := hr.2.1
  have hc60 := la_c_le S n (S l)
  have hfX : (X f).length = (X l).length ∧ ∀ i, i < (X l).length → 1000 ≤ (X l).getD i 0 → 1000 ≤ (X f).getD i 0 := by
    obtain ⟨hrf, _, hskf, hSLf⟩ := hI.1.1.2.2.1 f (by omega)
    rw [hS, hSL] at hSLf
    have e1 := congrArg List.length hSLf
    rw [List.length_map, List.length_map] at e1
    refine ⟨e1.symm, fun i hi hx => ?_⟩
    have e2 := la_getD_map hi
    rw [hSLf, la_getD_map (show i < (X f).length by omega), la_bl_n hx] at e2
    exact (la_bl_eq (la_get_ok hrf (by omega))).mp e2
  refine pk_loop (σ := St1) (fun g i v => wL_law_392 post L xs J x2 x4 (nI l) (nI f) (nI (la_c S n (S l))) kc ks g (nI i) v.1 v.2.1 v.2.2.1 v.2.2.2.1 v.2.2.2.2.1 v.2.2.2.2.2.1 v.2.2.2.2.2.2.1 v.2.2.2.2.2.2.2.1 v.2.2.2.2.2.2.2.2.1 v.2.2.2.2.2.2.2.2.2.1 v.2.2.2.2.2.2.2.2.2.2.1 v.2.2.2.2.2.2.2.2.2.2.2.1 v.2.2.2.2.2.2.2.2.2.2.2.2.1 v.2.2.2.2.2.2.2.2.2.2.2.2.2.1 v.2.2.2.2.2.2.2.2.2.2.2.2.2.2.1 v.2.2.2.2.2.2.2.2.2.2.2.2.2.2.2.1 v.2.2.2.2.2.2.2.2.2.2.2.2.2.2.2.2.1 v.2.2.2.2.2.2.2.2.2.2.2.2.2.2.2.2.2.1 v.2.2.2.2.2.2.2.2.2.2.2.2.2.2.2.2.2.2.1 v.2.2.2.2.2.2.2.2.2.2.2.2.2.2.2.2.2.2.2.1 v.2.2.2.2.2.2.2.2.2.2.2.2.2.2.2.2.2.2.2.2.1 v.2.2.2.2.2.2.2.2.2.2.2.2.2.2.2.2.2.2.2.2.2.1 v.2.2.2.2.2.2.2.2.2.2.2.2.2.2.2.2.2.2.2.2.2.2.1 v.2.2.2.2.2.2.2.2.2.2.2.2.2.2.2.2.2.2.2.2.2.2.2.1 v.2.2.2.2.2.2.2.2.2.2.2.2.2.2.2.2.2.2.2.2.2.2.2.2.1 v.2.2.2.2.2.2.2.2.2.2.2.2.2.2.2.2.2.2.2.2.2.2.2.2.2.1 v.2.2.2.2.2.2.2.2.2.2.2.2.2.2.2.2.2.2.2.2.2.2.2.2.2.2.1 v.2.2.2.2.2.2.2.2.2.2.2.2.2.2.2.2.2.2.2.2.2.2.2.2.2.2.2) (fun i v => la_q v = la_q u) (X l).length 0 u (by omega) rfl
    (fun g v e => ?_) (fun g i v hi e hw => ?_)
  · unfold wL_law_392
    refine la_lengthQ (u := v) (la_I_q e hI) hl ?_
    exact pk_le (X l).length (X l).length (fun _ => nm_r (nI_1 l) (H v e)) (fun z => absurd z (by omega))
  · have hvlt : ∀ j, j < n → la_v X i j < 1000 := fun j hj => by
      have := la_getD_lt (hI.1.1.2.2.1 j hj).1.2.2 i
      unfold la_v
      omega
    have hgo := la_get_ok hr hi
    have hgo2 := la_ok_lt hgo
    unfold wL_law_392
    refine la_lengthQ (u := v) (la_I_q e hI) hl ?_
    refine pk_le (X l).length i (fun z => absurd z (by omega)) (fun _ => ?_)
    by_cases hx : 1000 ≤ (X l).getD i 0
    · refine la_colT (u := v) 0 (la_I_q e hI) hl hi hx (by omega) (fun u1 lo hi' e1 m1 m2 => ?_)
      rw [if_pos rfl]
      have hmin := m1.2
      have hmax := m2.2
      have hlo : lo < 1000 := by
        obtain ⟨⟨j, j1, j2, j3⟩, _⟩ := m1
        have := hvlt j (by omega)
        omega
      have hhi : hi' < 1000 := by
        obtain ⟨⟨j, j1, j2, j3⟩, _⟩ := m2
        have := hvlt j (by omega)
        omega
      have hvl : la_v X i l = (X l).getD i 0 - 1000 := rfl
      have hlol := hmin l hl rfl
      have hhil := hmax l hl rfl
      have hs1 := la_su_ge (n := n) hmin
      have hs2 := la_su_le (n := n) hmax
      have hb1 : lo * la_c S n (S l) ≤ 999 * 60 := Nat.mul_le_mul (by omega) (by omega)
      have hb2 : hi' * la_c S n (S l) ≤ 999 * 60 := Nat.mul_le_mul (by omega) (by omega)
      have E1 := e1.trans e
      refine la_atQ (u := u1) (la_I_q E1 hI) hl hi (fun u2 e2 => ?_)
      have E2 := e2.trans E1
      refine pk_le 1000 ((X l).getD i 0) (fun _ => ?_) (fun z => absurd z (by omega))
      refine la_colT (u := u2) 2 (la_I_q E2 hI) hl hi hx (by omega) (fun u3 _ _ e3 _ _ => ?_)
      rw [if_neg (show ¬ 2 = 0 by omega), if_neg (show ¬ 2 = 1 by omega), pk_mul]
      have E3 := e3.trans E2
      refine pk_lt (la_su S (la_v X i) (S l) n) (lo * la_c S n (S l)) (fun z => absurd z (by omega)) (fun _ => ?_)
      refine la_colT (u := u3) 2 (la_I_q E3 hI) hl hi hx (by omega) (fun u4 _ _ e4 _ _ => ?_)
      rw [if_neg (show ¬ 2 = 0 by omega), if_neg (show ¬ 2 = 1 by omega)]
      have E4 := e4.trans E3
      refine la_colT (u := u4) 1 (la_I_q E4 hI) hl hi hx (by omega) (fun u5 _ h5 e5 _ p5 => ?_)
      rw [if_neg (show ¬ 1 = 0 by omega), if_pos rfl, la_max_u p5 m2, pk_mul]
      have E5 := e5.trans E4
      refine pk_lt (hi' * la_c S n (S l)) (la_su S (la_v X i) (S l) n) (fun z => absurd z (by omega)) (fun _ => ?_)
      refine la_atQ (u := u5) (la_I_q E5 hI) hl hi (fun u6 e6 => ?_)
      have E6 := e6.trans E5
      rw [show nI ((X l).getD i 0) - 1000 = nI (la_v X i l) from pk_sub hx]
      refine pk_lt (la_v X i l) lo (fun z => absurd z (by omega)) (fun _ => ?_)
      refine la_colT (u := u6) 1 (la_I_q E6 hI) hl hi hx (by omega) (fun u7 _ h7 e7 _ p7 => ?_)
      rw [if_neg (show ¬ 1 = 0 by omega), if_pos rfl, la_max_u p7 m2]
      have E7 := e7.trans E6
      refine la_atQ (u := u7) (la_I_q E7 hI) hl hi (fun u8 e8 => ?_)
      have E8 := e8.trans E7
      rw [show nI ((X l).getD i 0) - 1000 = nI (la_v X i l) from pk_sub hx]
      refine pk_lt hi' (la_v X i l) (fun z => absurd z (by omega)) (fun _ => ?_)
      refine la_colD (u := u8) (la_I_q E8 hI) hl hi hx (fun u9 D e9 d1 d2 d3 => ?_)
      have E9 := e9.trans E8
      refine pk_lt D 1 (fun z => absurd z (by omega)) (fun _ => ?_)
      refine la_colD (u := u9) (la_I_q E9 hI) hl hi hx (fun u10 D' e10 d1' d2' d3' => ?_)
      have E10 := e10.trans E9
      refine pk_lt (la_c S n (S l)) D' (fun z => absurd z (by omega)) (fun _ => ?_)
      refine la_colD (u := u10) (la_I_q E10 hI) hl hi hx (fun u11 D2 e11 c1 c2 c3 => ?_)
      have E11 := e11.trans E10
      have hD : D2 = 1 ↔ lo = hi' := by
        rw [c3]
        constructor
        · intro q
          obtain ⟨⟨j, j1, j2, j3⟩, _⟩ := m1
          obtain ⟨⟨j', j1', j2', j3'⟩, _⟩ := m2
          have := q j j' j1 j1' j2 j2'
          omega
        · intro q j j' j1 j2 j3 j4
          have := hmin j j1 j3
          have := hmax j j1 j3
          have := hmin j' j2 j4
          have := hmax j' j2 j4
          omega
      have h584 : ∀ (z : Int32) (v' : St1), la_q v' = la_q u → wL_law_584 post L xs J (wL_law_392 post L xs J x2 x4 (nI l) (nI f) (nI (la_c S n (S l))) kc ks g) x2 x4 (nI l) (nI f) (nI (la_c S n (S l))) (nI i) z z kc ks v'.1 v'.2.1 v'.2.2.1 v'.2.2.2.1 v'.2.2.2.2.1 v'.2.2.2.2.2.1 v'.2.2.2.2.2.2.1 v'.2.2.2.2.2.2.2.1 v'.2.2.2.2.2.2.2.2.1 v'.2.2.2.2.2.2.2.2.2.1 v'.2.2.2.2.2.2.2.2.2.2.1 v'.2.2.2.2.2.2.2.2.2.2.2.1 v'.2.2.2.2.2.2.2.2.2.2.2.2.1 v'.2.2.2.2.2.2.2.2.2.2.2.2.2.1 v'.2.2.2.2.2.2.2.2.2.2.2.2.2.2.1 v'.2.2.2.2.2.2.2.2.2.2.2.2.2.2.2.1 v'.2.2.2.2.2.2.2.2.2.2.2.2.2.2.2.2.1 v'.2.2.2.2.2.2.2.2.2.2.2.2.2.2.2.2.2.1 v'.2.2.2.2.2.2.2.2.2.2.2.2.2.2.2.2.2.2.1 v'.2.2.2.2.2.2.2.2.2.2.2.2.2.2.2.2.2.2.2.1 v'.2.2.2.2.2.2.2.2.2.2.2.2.2.2.2.2.2.2.2.2.1 v'.2.2.2.2.2.2.2.2.2.2.2.2.2.2.2.2.2.2.2.2.2.1 v'.2.2.2.2.2.2.2.2.2.2.2.2.2.2.2.2.2.2.2.2.2.2.1 v'.2.2.2.2.2.2.2.2.2.2.2.2.2.2.2.2.2.2.2.2.2.2.2.1 v'.2.2.2.2.2.2.2.2.2.2.2.2.2.2.2.2.2.2.2.2.2.2.2.2.1 v'.2.2.2.2.2.2.2.2.2.2.2.2.2.2.2.2.2.2.2.2.2.2.2.2.2.1 v'.2.2.2.2.2.2.2.2.2.2.2.2.2.2.2.2.2.2.2.2.2.2.2.2.2.2.1 v'.2.2.2.2.2.2.2.2.2.2.2.2.2.2.2.2.2.2.2.2.2.2.2.2.2.2.2 := by
        intro z v' E
        unfold wL_law_584
        refine br_t rfl ?_
        refine la_colT (u := v') 0 (la_I_q E hI) hl hi hx (by omega) (fun v1 lo1 _ y1 w1 _ => ?_)
        rw [if_pos rfl, la_min_u w1 m1]
        have F1 := y1.trans E
        refine la_colT (u := v1) 0 (la_I_q F1 hI) (show f < n by omega) (by omega) (hfX.2 i hi hx) (by omega) (fun v2 lo2 _ y2 w2 _ => ?_)
        rw [hS] at w2
        rw [if_pos rfl, la_min_u w2 m1]
        exact br_t rfl (nm_r (nI_1 i) (hw v2 (y2.trans F1)))
      refine pk_eq D2 1 (fun z => ?_) (fun z => ?_)
      · unfold wL_law_565
        refine la_colT (u := u11) 1 (la_I_q E11 hI) hl hi hx (by omega) (fun u12 _ _ e12 _ p12 => ?_)
        rw [if_neg (show ¬ 1 = 0 by omega), if_pos rfl, la_max_u p12 m2]
        refine pk_eq lo hi' (fun _ => h584 1 u12 (e12.trans E11)) (fun y => absurd (hD.mp z) y)
      · unfold wL_law_565
        refine la_colT (u := u11) 1 (la_I_q E11 hI) hl hi hx (by omega) (fun u12 _ _ e12 _ p12 => ?_)
        rw [if_neg (show ¬ 1 = 0 by omega), if_pos rfl, la_max_u p12 m2]
        refine pk_eq lo hi' (fun y => absurd (hD.mpr y) z) (fun _ => h584 0 u12 (e12.trans E11))
    · refine la_colN (u := v) 0 (la_I_q e hI) hl hi (by omega) (by omega) ?_
      refine la_atQ (u := v) (la_I_q e hI) hl hi (fun u2 e2 => ?_)
      refine pk_le 1000 ((X l).getD i 0) (fun z => absurd z hx) (fun _ => br_t rfl (nm_r (nI_1 i) (hw u2 (e2.trans e))))
end
section
/-! the law's pairs of lines -/
theorem la_alike_iff {n k l m : Nat} {T : Nat → Nat} {X : Nat → List Nat} {S : Nat → Nat} {SL : Nat → List Nat} (hA : la_A n k T X S SL) (hl : l < n) (hm : m < n) : S m = S l ↔ ((X l).length = (X m).length ∧ ∀ i, i < (X l).length → la_bl ((X l).getD i 0) = la_bl ((X m).getD i 0)) := by
  obtain ⟨_, _, hA3, hA4, _⟩ := hA
  obtain ⟨_, _, h1, h2⟩ := hA3 l hl
  obtain ⟨_, _, h3, h4⟩ := hA3 m hm
  constructor
  · intro e
    rw [e, h2] at h4
    have e1 := congrArg List.length h4
    rw [List.length_map, List.length_map] at e1
    refine ⟨e1, fun i hi => ?_⟩
    rw [← la_getD_map hi, h4, la_getD_map (by omega)]
  · rintro ⟨e1, e2⟩
    refine hA4 _ _ h3 h1 ?_
    rw [h2, h4]
    refine la_ext (by rw [List.length_map, List.length_map]; exact e1.symm) (fun i hi => ?_)
    rw [List.length_map] at hi
    rw [la_getD_map hi, la_getD_map (by omega), e2 i (by omega)]
theorem la_law313 {post : Int32 → Prop} {L : Nat} {xs : Nat → Int32} {J : Int32 → Int32 → Int32 → Int32 → Int32 → Int32 → Int32 → Int64 → Int32 → (Nat → Int32) → (Nat → Int32) → (Nat → Int32) → (Nat → Int32) → (Nat → Int32) → (Nat → Int32) → (Nat → Int32) → (Nat → Int32) → (Nat → Int64) → (Nat → Int32) → (Nat → Int64) → (Nat → Int32) → (Nat → Int32) → (Nat → Int32) → (Nat → Int32) → (Nat → Int32) → (Nat → Int32) → (Nat → Int32) → (Nat → Int32) → (Nat → Int32) → Prop} {J2 : Int32 → Int32 → Int32 → Int32 → Int32 → Int32 → Int32 → Int32 → Int64 → Int32 → (Nat → Int32) → (Nat → Int32) → (Nat → Int32) → (Nat → Int32) → (Nat → Int32) → (Nat → Int32) → (Nat → Int32) → (Nat → Int32) → (Nat → Int64) → (Nat → Int32) → (Nat → Int64) → (Nat → Int32) → (Nat → Int32) → (Nat → Int32) → (Nat → Int32) → (Nat → Int32) → (Nat → Int32) → (Nat → Int32) → (Nat → Int32) → (Nat → Int32) → Prop} {x2 x4 al : Int32} {kc ks : Nat} {v : St1} {n k l m f : Nat} {T : Nat → Nat} {X : Nat → List Nat} {S : Nat → Nat} {SL : Nat → List Nat}
    (hI : la_I n k T X S SL v) (hm : m < n) (hf : la_fst S (S l) f) (hfl : f ≤ l) (hl : l < n)
    (hal : (al = 1 ∧ S m = S l) ∨ (al = 0 ∧ S m ≠ S l)) (H : J2 (nI (la_c S (m + 1) (S l))) (nI (m + 1)) v.1 v.2.1 v.2.2.1 v.2.2.2.1 v.2.2.2.2.1 v.2.2.2.2.2.1 v.2.2.2.2.2.2.1 v.2.2.2.2.2.2.2.1 v.2.2.2.2.2.2.2.2.1 v.2.2.2.2.2.2.2.2.2.1 v.2.2.2.2.2.2.2.2.2.2.1 v.2.2.2.2.2.2.2.2.2.2.2.1 v.2.2.2.2.2.2.2.2.2.2.2.2.1 v.2.2.2.2.2.2.2.2.2.2.2.2.2.1 v.2.2.2.2.2.2.2.2.2.2.2.2.2.2.1 v.2.2.2.2.2.2.2.2.2.2.2.2.2.2.2.1 v.2.2.2.2.2.2.2.2.2.2.2.2.2.2.2.2.1 v.2.2.2.2.2.2.2.2.2.2.2.2.2.2.2.2.2.1 v.2.2.2.2.2.2.2.2.2.2.2.2.2.2.2.2.2.2.1 v.2.2.2.2.2.2.2.2.2.2.2.2.2.2.2.2.2.2.2.1 v.2.2.2.2.2.2.2.2.2.2.2.2.2.2.2.2.2.2.2.2.1 v.2.2.2.2.2.2.2.2.2.2.2.2.2.2.2.2.2.2.2.2.2.1 v.2.2.2.2.2.2.2.2.2.2.2.2.2.2.2.2.2.2.2.2.2.2.1 v.2.2.2.2.2.2.2.2.2.2.2.2.2.2.2.2.2.2.2.2.2.2.2.1 v.2.2.2.2.2.2.2.2.2.2.2.2.2.2.2.2.2.2.2.2.2.2.2.2.1 v.2.2.2.2.2.2.2.2.2.2.2.2.2.2.2.2.2.2.2.2.2.2.2.2.2.1 v.2.2.2.2.2.2.2.2.2.2.2.2.2.2.2.2.2.2.2.2.2.2.2.2.2.2.1 v.2.2.2.2.2.2.2.2.2.2.2.2.2.2.2.2.2.2.2.2.2.2.2.2.2.2.2) : wL_law_313 post L xs J J2 x2 x4 (nI l) (nI f) (nI (la_c S m (S l))) (nI m) al kc ks v.1 v.2.1 v.2.2.1 v.2.2.2.1 v.2.2.2.2.1 v.2.2.2.2.2.1 v.2.2.2.2.2.2.1 v.2.2.2.2.2.2.2.1 v.2.2.2.2.2.2.2.2.1 v.2.2.2.2.2.2.2.2.2.1 v.2.2.2.2.2.2.2.2.2.2.1 v.2.2.2.2.2.2.2.2.2.2.2.1 v.2.2.2.2.2.2.2.2.2.2.2.2.1 v.2.2.2.2.2.2.2.2.2.2.2.2.2.1 v.2.2.2.2.2.2.2.2.2.2.2.2.2.2.1 v.2.2.2.2.2.2.2.2.2.2.2.2.2.2.2.1 v.2.2.2.2.2.2.2.2.2.2.2.2.2.2.2.2.1 v.2.2.2.2.2.2.2.2.2.2.2.2.2.2.2.2.2.1 v.2.2.2.2.2.2.2.2.2.2.2.2.2.2.2.2.2.2.1 v.2.2.2.2.2.2.2.2.2.2.2.2.2.2.2.2.2.2.2.1 v.2.2.2.2.2.2.2.2.2.2.2.2.2.2.2.2.2.2.2.2.1 v.2.2.2.2.2.2.2.2.2.2.2.2.2.2.2.2.2.2.2.2.2.1 v.2.2.2.2.2.2.2.2.2.2.2.2.2.2.2.2.2.2.2.2.2.2.1 v.2.2.2.2.2.2.2.2.2.2.2.2.2.2.2.2.2.2.2.2.2.2.2.1 v.2.2.2.2.2.2.2.2.2.2.2.2.2.2.2.2.2.2.2.2.2.2.2.2.1 v.2.2.2.2.2.2.2.2.2.2.2.2.2.2.2.2.2.2.2.2.2.2.2.2.2.1 v.2.2.2.2.2.2.2.2.2.2.2.2.2.2.2.2.2.2.2.2.2.2.2.2.2.2.1 v.2.2.2.2.2.2.2.2.2.2.2.2.2.2.2.2.2.2.2.2.2.2.2.2.2.2.2 := by
  have hn60 := hI.1.1.1
  have hcs : la_c S (m + 1) (S l) = la_c S m (S l) + (if decide (S m = S l) = true then 1 else 0) := rfl
  unfold wL_law_313
  rcases hal with ⟨e1, e2⟩ | ⟨e1, e2⟩
  · subst e1
    refine br_f (by decide) ?_
    unfold wL_law_327
    refine la_groupQ (u := v) hI hm (fun f' h1 h2 => ?_)
    rw [e2] at h2
    rw [la_fst_u h2 hf]
    refine br_t rfl ?_
    unfold wL_law_347
    refine br_t rfl (nm_r (nI_1 m) ?_)
    rw [hcs, if_pos (decide_eq_true e2)] at H
    rw [nI_1]
    exact H
  · subst e1
    refine br_t rfl ?_
    unfold wL_law_327
    refine la_groupQ (u := v) hI hm (fun f' h1 h2 => ?_)
    refine pk_eq f' f (fun z => ?_) (fun _ => ?_)
    · rw [z] at h2
      exact absurd (h2.1.symm.trans hf.1) e2
    · unfold wL_law_347
      refine br_t rfl (nm_r (nI_1 m) ?_)
      rw [hcs, if_neg (by simp [e2])] at H
      exact H
theorem la_law241 {post : Int32 → Prop} {L : Nat} {xs : Nat → Int32} {J : Int32 → Int32 → Int32 → Int32 → Int32 → Int32 → Int32 → Int64 → Int32 → (Nat → Int32) → (Nat → Int32) → (Nat → Int32) → (Nat → Int32) → (Nat → Int32) → (Nat → Int32) → (Nat → Int32) → (Nat → Int32) → (Nat → Int64) → (Nat → Int32) → (Nat → Int64) → (Nat → Int32) → (Nat → Int32) → (Nat → Int32) → (Nat → Int32) → (Nat → Int32) → (Nat → Int32) → (Nat → Int32) → (Nat → Int32) → (Nat → Int32) → Prop} {J2 : Int32 → Int32 → Int32 → Int32 → Int32 → Int32 → Int32 → Int32 → Int64 → Int32 → (Nat → Int32) → (Nat → Int32) → (Nat → Int32) → (Nat → Int32) → (Nat → Int32) → (Nat → Int32) → (Nat → Int32) → (Nat → Int32) → (Nat → Int64) → (Nat → Int32) → (Nat → Int64) → (Nat → Int32) → (Nat → Int32) → (Nat → Int32) → (Nat → Int32) → (Nat → Int32) → (Nat → Int32) → (Nat → Int32) → (Nat → Int32) → (Nat → Int32) → Prop} {x2 x4 al : Int32} {kc ks : Nat} {u : St1} {n k l m f : Nat} {T : Nat → Nat} {X : Nat → List Nat} {S : Nat → Nat} {SL : Nat → List Nat}
    (hI : la_I n k T X S SL u) (hl : l < n) (hm : m < n) (hf : la_fst S (S l) f) (hfl : f ≤ l)
    (hal : (al = 1 ∧ (X l).length = (X m).length) ∨ (al = 0 ∧ ¬ (X l).length = (X m).length)) (H : ∀ v, la_q v = la_q u → J2 (nI (la_c S (m + 1) (S l))) (nI (m + 1)) v.1 v.2.1 v.2.2.1 v.2.2.2.1 v.2.2.2.2.1 v.2.2.2.2.2.1 v.2.2.2.2.2.2.1 v.2.2.2.2.2.2.2.1 v.2.2.2.2.2.2.2.2.1 v.2.2.2.2.2.2.2.2.2.1 v.2.2.2.2.2.2.2.2.2.2.1 v.2.2.2.2.2.2.2.2.2.2.2.1 v.2.2.2.2.2.2.2.2.2.2.2.2.1 v.2.2.2.2.2.2.2.2.2.2.2.2.2.1 v.2.2.2.2.2.2.2.2.2.2.2.2.2.2.1 v.2.2.2.2.2.2.2.2.2.2.2.2.2.2.2.1 v.2.2.2.2.2.2.2.2.2.2.2.2.2.2.2.2.1 v.2.2.2.2.2.2.2.2.2.2.2.2.2.2.2.2.2.1 v.2.2.2.2.2.2.2.2.2.2.2.2.2.2.2.2.2.2.1 v.2.2.2.2.2.2.2.2.2.2.2.2.2.2.2.2.2.2.2.1 v.2.2.2.2.2.2.2.2.2.2.2.2.2.2.2.2.2.2.2.2.1 v.2.2.2.2.2.2.2.2.2.2.2.2.2.2.2.2.2.2.2.2.2.1 v.2.2.2.2.2.2.2.2.2.2.2.2.2.2.2.2.2.2.2.2.2.2.1 v.2.2.2.2.2.2.2.2.2.2.2.2.2.2.2.2.2.2.2.2.2.2.2.1 v.2.2.2.2.2.2.2.2.2.2.2.2.2.2.2.2.2.2.2.2.2.2.2.2.1 v.2.2.2.2.2.2.2.2.2.2.2.2.2.2.2.2.2.2.2.2.2.2.2.2.2.1 v.2.2.2.2.2.2.2.2.2.2.2.2.2.2.2.2.2.2.2.2.2.2.2.2.2.2.1 v.2.2.2.2.2.2.2.2.2.2.2.2.2.2.2.2.2.2.2.2.2.2.2.2.2.2.2) :
    ∃ g, wL_law_241 post L xs J J2 x2 x4 (nI l) (nI f) (nI (la_c S m (S l))) (nI m) kc ks g al 0 u.1 u.2.1 u.2.2.1 u.2.2.2.1 u.2.2.2.2.1 u.2.2.2.2.2.1 u.2.2.2.2.2.2.1 u.2.2.2.2.2.2.2.1 u.2.2.2.2.2.2.2.2.1 u.2.2.2.2.2.2.2.2.2.1 u.2.2.2.2.2.2.2.2.2.2.1 u.2.2.2.2.2.2.2.2.2.2.2.1 u.2.2.2.2.2.2.2.2.2.2.2.2.1 u.2.2.2.2.2.2.2.2.2.2.2.2.2.1 u.2.2.2.2.2.2.2.2.2.2.2.2.2.2.1 u.2.2.2.2.2.2.2.2.2.2.2.2.2.2.2.1 u.2.2.2.2.2.2.2.2.2.2.2.2.2.2.2.2.1 u.2.2.2.2.2.2.2.2.2.2.2.2.2.2.2.2.2.1 u.2.2.2.2.2.2.2.2.2.2.2.2.2.2.2.2.2.2.1 u.2.2.2.2.2.2.2.2.2.2.2.2.2.2.2.2.2.2.2.1 u.2.2.2.2.2.2.2.2.2.2.2.2.2.2.2.2.2.2.2.2.1 u.2.2.2.2.2.2.2.2.2.2.2.2.2.2.2.2.2.2.2.2.2.1 u.2.2.2.2.2.2.2.2.2.2.2.2.2.2.2.2.2.2.2.2.2.2.1 u.2.2.2.2.2.2.2.2.2.2.2.2.2.2.2.2.2.2.2.2.2.2.2.1 u.2.2.2.2.2.2.2.2.2.2.2.2.2.2.2.2.2.2.2.2.2.2.2.2.1 u.2.2.2.2.2.2.2.2.2.2.2.2.2.2.2.2.2.2.2.2.2.2.2.2.2.1 u.2.2.2.2.2.2.2.2.2.2.2.2.2.2.2.2.2.2.2.2.2.2.2.2.2.2.1 u.2.2.2.2.2.2.2.2.2.2.2.2.2.2.2.2.2.2.2.2.2.2.2.2.2.2.2 := by
  have hA := hI.1.1
  have hrl := (hA.2.2.1 l hl).1
  have hrm := (hA.2.2.1 m hm).1
  have hl8 := hrl.2.1
  have hiff := la_alike_iff hA hl hm
  refine pk_loop (σ := Int32 × St1) (fun g i s => wL_law_241 post L xs J J2 x2 x4 (nI l) (nI f) (nI (la_c S m (S l))) (nI m) kc ks g s.1 (nI i) s.2.1 s.2.2.1 s.2.2.2.1 s.2.2.2.2.1 s.2.2.2.2.2.1 s.2.2.2.2.2.2.1 s.2.2.2.2.2.2.2.1 s.2.2.2.2.2.2.2.2.1 s.2.2.2.2.2.2.2.2.2.1 s.2.2.2.2.2.2.2.2.2.2.1 s.2.2.2.2.2.2.2.2.2.2.2.1 s.2.2.2.2.2.2.2.2.2.2.2.2.1 s.2.2.2.2.2.2.2.2.2.2.2.2.2.1 s.2.2.2.2.2.2.2.2.2.2.2.2.2.2.1 s.2.2.2.2.2.2.2.2.2.2.2.2.2.2.2.1 s.2.2.2.2.2.2.2.2.2.2.2.2.2.2.2.2.1 s.2.2.2.2.2.2.2.2.2.2.2.2.2.2.2.2.2.1 s.2.2.2.2.2.2.2.2.2.2.2.2.2.2.2.2.2.2.1 s.2.2.2.2.2.2.2.2.2.2.2.2.2.2.2.2.2.2.2.1 s.2.2.2.2.2.2.2.2.2.2.2.2.2.2.2.2.2.2.2.2.1 s.2.2.2.2.2.2.2.2.2.2.2.2.2.2.2.2.2.2.2.2.2.1 s.2.2.2.2.2.2.2.2.2.2.2.2.2.2.2.2.2.2.2.2.2.2.1 s.2.2.2.2.2.2.2.2.2.2.2.2.2.2.2.2.2.2.2.2.2.2.2.1 s.2.2.2.2.2.2.2.2.2.2.2.2.2.2.2.2.2.2.2.2.2.2.2.2.1 s.2.2.2.2.2.2.2.2.2.2.2.2.2.2.2.2.2.2.2.2.2.2.2.2.2.1 s.2.2.2.2.2.2.2.2.2.2.2.2.2.2.2.2.2.2.2.2.2.2.2.2.2.2.1 s.2.2.2.2.2.2.2.2.2.2.2.2.2.2.2.2.2.2.2.2.2.2.2.2.2.2.2.1 s.2.2.2.2.2.2.2.2.2.2.2.2.2.2.2.2.2.2.2.2.2.2.2.2.2.2.2.2) (fun i s => la_q s.2 = la_q u ∧ ((s.1 = 1 ∧ (X l).length = (X m).length ∧ ∀ j, j < i → la_bl ((X l).getD j 0) = la_bl ((X m).getD j 0)) ∨ (s.1 = 0 ∧ S m ≠ S l))) (X l).length 0 (al, u) (by omega) ⟨rfl, ?_⟩
    (fun g s h => ?_) (fun g i s hi h hw => ?_)
  · rcases hal with ⟨e1, e2⟩ | ⟨e1, e2⟩
    · exact Or.inl ⟨e1, e2, fun j h => absurd h (by omega)⟩
    · exact Or.inr ⟨e1, fun z => e2 (hiff.mp z).1⟩
  · obtain ⟨al, v⟩ := s
    obtain ⟨e, h⟩ := h
    dsimp only at e h ⊢
    unfold wL_law_241
    refine la_lengthQ (u := v) (la_I_q e hI) hl ?_
    refine pk_le (X l).length (X l).length (fun _ => ?_) (fun z => absurd z (by omega))
    refine la_law313 (v := v) (la_I_q e hI) hm hf hfl hl ?_ (H v e)
    rcases h with ⟨e1, e2, e3⟩ | ⟨e1, e2⟩
    · exact Or.inl ⟨e1, hiff.mpr ⟨e2, e3⟩⟩
    · exact Or.inr ⟨e1, e2⟩
  · obtain ⟨al, v⟩ := s
    obtain ⟨e, h⟩ := h
    dsimp only at e h ⊢
    unfold wL_law_241
    refine la_lengthQ (u := v) (la_I_q e hI) hl ?_
    refine pk_le (X l).length i (fun z => absurd z (by omega)) (fun _ => ?_)
    rcases h with ⟨e1, e2, e3⟩ | ⟨e1, e2⟩
    · subst e1
      refine br_f (by decide) ?_
      refine la_atQ (u := v) (la_I_q e hI) hl hi (fun v1 y1 => ?_)
      refine la_atQ (u := v1) (la_I_q (y1.trans e) hI) hm (by omega) (fun v2 y2 => ?_)
      have E := y2.trans (y1.trans e)
      have ga := la_get_ok hrl hi
      have gb := la_get_ok hrm (show i < (X m).length by omega)
      have ga2 := la_ok_lt ga
      have gb2 := la_ok_lt gb
      have hab := la_alike ga gb
      have hyes : la_bl ((X l).getD i 0) = la_bl ((X m).getD i 0) → wL_law_241 post L xs J J2 x2 x4 (nI l) (nI f) (nI (la_c S m (S l))) (nI m) kc ks g 1 (nI (i + 1)) v2.1 v2.2.1 v2.2.2.1 v2.2.2.2.1 v2.2.2.2.2.1 v2.2.2.2.2.2.1 v2.2.2.2.2.2.2.1 v2.2.2.2.2.2.2.2.1 v2.2.2.2.2.2.2.2.2.1 v2.2.2.2.2.2.2.2.2.2.1 v2.2.2.2.2.2.2.2.2.2.2.1 v2.2.2.2.2.2.2.2.2.2.2.2.1 v2.2.2.2.2.2.2.2.2.2.2.2.2.1 v2.2.2.2.2.2.2.2.2.2.2.2.2.2.1 v2.2.2.2.2.2.2.2.2.2.2.2.2.2.2.1 v2.2.2.2.2.2.2.2.2.2.2.2.2.2.2.2.1 v2.2.2.2.2.2.2.2.2.2.2.2.2.2.2.2.2.1 v2.2.2.2.2.2.2.2.2.2.2.2.2.2.2.2.2.2.1 v2.2.2.2.2.2.2.2.2.2.2.2.2.2.2.2.2.2.2.1 v2.2.2.2.2.2.2.2.2.2.2.2.2.2.2.2.2.2.2.2.1 v2.2.2.2.2.2.2.2.2.2.2.2.2.2.2.2.2.2.2.2.2.1 v2.2.2.2.2.2.2.2.2.2.2.2.2.2.2.2.2.2.2.2.2.2.1 v2.2.2.2.2.2.2.2.2.2.2.2.2.2.2.2.2.2.2.2.2.2.2.1 v2.2.2.2.2.2.2.2.2.2.2.2.2.2.2.2.2.2.2.2.2.2.2.2.1 v2.2.2.2.2.2.2.2.2.2.2.2.2.2.2.2.2.2.2.2.2.2.2.2.2.1 v2.2.2.2.2.2.2.2.2.2.2.2.2.2.2.2.2.2.2.2.2.2.2.2.2.2.1 v2.2.2.2.2.2.2.2.2.2.2.2.2.2.2.2.2.2.2.2.2.2.2.2.2.2.2.1 v2.2.2.2.2.2.2.2.2.2.2.2.2.2.2.2.2.2.2.2.2.2.2.2.2.2.2.2 := fun q => by
        refine hw (1, v2) ⟨E, Or.inl ⟨rfl, e2, fun j hj => ?_⟩⟩
        by_cases ej : j = i
        · rw [ej]
          exact q
        · exact e3 j (by omega)
      have hno : ¬ la_bl ((X l).getD i 0) = la_bl ((X m).getD i 0) → wL_law_241 post L xs J J2 x2 x4 (nI l) (nI f) (nI (la_c S m (S l))) (nI m) kc ks g 0 (nI (i + 1)) v2.1 v2.2.1 v2.2.2.1 v2.2.2.2.1 v2.2.2.2.2.1 v2.2.2.2.2.2.1 v2.2.2.2.2.2.2.1 v2.2.2.2.2.2.2.2.1 v2.2.2.2.2.2.2.2.2.1 v2.2.2.2.2.2.2.2.2.2.1 v2.2.2.2.2.2.2.2.2.2.2.1 v2.2.2.2.2.2.2.2.2.2.2.2.1 v2.2.2.2.2.2.2.2.2.2.2.2.2.1 v2.2.2.2.2.2.2.2.2.2.2.2.2.2.1 v2.2.2.2.2.2.2.2.2.2.2.2.2.2.2.1 v2.2.2.2.2.2.2.2.2.2.2.2.2.2.2.2.1 v2.2.2.2.2.2.2.2.2.2.2.2.2.2.2.2.2.1 v2.2.2.2.2.2.2.2.2.2.2.2.2.2.2.2.2.2.1 v2.2.2.2.2.2.2.2.2.2.2.2.2.2.2.2.2.2.2.1 v2.2.2.2.2.2.2.2.2.2.2.2.2.2.2.2.2.2.2.2.1 v2.2.2.2.2.2.2.2.2.2.2.2.2.2.2.2.2.2.2.2.2.1 v2.2.2.2.2.2.2.2.2.2.2.2.2.2.2.2.2.2.2.2.2.2.1 v2.2.2.2.2.2.2.2.2.2.2.2.2.2.2.2.2.2.2.2.2.2.2.1 v2.2.2.2.2.2.2.2.2.2.2.2.2.2.2.2.2.2.2.2.2.2.2.2.1 v2.2.2.2.2.2.2.2.2.2.2.2.2.2.2.2.2.2.2.2.2.2.2.2.2.1 v2.2.2.2.2.2.2.2.2.2.2.2.2.2.2.2.2.2.2.2.2.2.2.2.2.2.1 v2.2.2.2.2.2.2.2.2.2.2.2.2.2.2.2.2.2.2.2.2.2.2.2.2.2.2.1 v2.2.2.2.2.2.2.2.2.2.2.2.2.2.2.2.2.2.2.2.2.2.2.2.2.2.2.2 := fun q =>
        hw (0, v2) ⟨E, Or.inr ⟨rfl, fun z => q ((hiff.mp z).2 i hi)⟩⟩
      refine pk_eq ((X l).getD i 0) ((X m).getD i 0) (fun z => nm_r (nI_1 i) (hyes (by rw [z]))) (fun z => ?_)
      refine pk_lt ((X l).getD i 0) 1000 (fun z1 => nm_r (nI_1 i) (hno (fun q => ?_))) (fun z1 => pk_lt ((X m).getD i 0) 1000 (fun z2 => nm_r (nI_1 i) (hno (fun q => ?_))) (fun z2 => nm_r (nI_1 i) (hyes (hab.mpr (Or.inr ⟨z1, z2⟩)))))
      · have := hab.mp q
        omega
      · have := hab.mp q
        omega
    · subst e1
      refine br_t rfl ?_
      exact la_law313 (v := v) (la_I_q e hI) hm hf hfl hl (Or.inr ⟨rfl, e2⟩) (H v e)
theorem la_law210 {post : Int32 → Prop} {L : Nat} {xs : Nat → Int32} {J : Int32 → Int32 → Int32 → Int32 → Int32 → Int32 → Int32 → Int64 → Int32 → (Nat → Int32) → (Nat → Int32) → (Nat → Int32) → (Nat → Int32) → (Nat → Int32) → (Nat → Int32) → (Nat → Int32) → (Nat → Int32) → (Nat → Int64) → (Nat → Int32) → (Nat → Int64) → (Nat → Int32) → (Nat → Int32) → (Nat → Int32) → (Nat → Int32) → (Nat → Int32) → (Nat → Int32) → (Nat → Int32) → (Nat → Int32) → (Nat → Int32) → Prop} {x4 : Int32} {kc ks : Nat} {u : St1} {n k l f : Nat} {T : Nat → Nat} {X : Nat → List Nat} {S : Nat → Nat} {SL : Nat → List Nat}
    (hI : la_I n k T X S SL u) (hl : l < n) (hf : la_fst S (S l) f) (hfl : f ≤ l) (H : ∀ v, la_q v = la_q u → J (nI (l + 1)) v.1 v.2.1 v.2.2.1 v.2.2.2.1 v.2.2.2.2.1 v.2.2.2.2.2.1 v.2.2.2.2.2.2.1 v.2.2.2.2.2.2.2.1 v.2.2.2.2.2.2.2.2.1 v.2.2.2.2.2.2.2.2.2.1 v.2.2.2.2.2.2.2.2.2.2.1 v.2.2.2.2.2.2.2.2.2.2.2.1 v.2.2.2.2.2.2.2.2.2.2.2.2.1 v.2.2.2.2.2.2.2.2.2.2.2.2.2.1 v.2.2.2.2.2.2.2.2.2.2.2.2.2.2.1 v.2.2.2.2.2.2.2.2.2.2.2.2.2.2.2.1 v.2.2.2.2.2.2.2.2.2.2.2.2.2.2.2.2.1 v.2.2.2.2.2.2.2.2.2.2.2.2.2.2.2.2.2.1 v.2.2.2.2.2.2.2.2.2.2.2.2.2.2.2.2.2.2.1 v.2.2.2.2.2.2.2.2.2.2.2.2.2.2.2.2.2.2.2.1 v.2.2.2.2.2.2.2.2.2.2.2.2.2.2.2.2.2.2.2.2.1 v.2.2.2.2.2.2.2.2.2.2.2.2.2.2.2.2.2.2.2.2.2.1 v.2.2.2.2.2.2.2.2.2.2.2.2.2.2.2.2.2.2.2.2.2.2.1 v.2.2.2.2.2.2.2.2.2.2.2.2.2.2.2.2.2.2.2.2.2.2.2.1 v.2.2.2.2.2.2.2.2.2.2.2.2.2.2.2.2.2.2.2.2.2.2.2.2.1 v.2.2.2.2.2.2.2.2.2.2.2.2.2.2.2.2.2.2.2.2.2.2.2.2.2.1 v.2.2.2.2.2.2.2.2.2.2.2.2.2.2.2.2.2.2.2.2.2.2.2.2.2.2.1 v.2.2.2.2.2.2.2.2.2.2.2.2.2.2.2.2.2.2.2.2.2.2.2.2.2.2.2) :
    ∃ g, wL_law_210 post L xs J (nI n) x4 (nI l) (nI f) kc ks g 0 0 u.1 u.2.1 u.2.2.1 u.2.2.2.1 u.2.2.2.2.1 u.2.2.2.2.2.1 u.2.2.2.2.2.2.1 u.2.2.2.2.2.2.2.1 u.2.2.2.2.2.2.2.2.1 u.2.2.2.2.2.2.2.2.2.1 u.2.2.2.2.2.2.2.2.2.2.1 u.2.2.2.2.2.2.2.2.2.2.2.1 u.2.2.2.2.2.2.2.2.2.2.2.2.1 u.2.2.2.2.2.2.2.2.2.2.2.2.2.1 u.2.2.2.2.2.2.2.2.2.2.2.2.2.2.1 u.2.2.2.2.2.2.2.2.2.2.2.2.2.2.2.1 u.2.2.2.2.2.2.2.2.2.2.2.2.2.2.2.2.1 u.2.2.2.2.2.2.2.2.2.2.2.2.2.2.2.2.2.1 u.2.2.2.2.2.2.2.2.2.2.2.2.2.2.2.2.2.2.1 u.2.2.2.2.2.2.2.2.2.2.2.2.2.2.2.2.2.2.2.1 u.2.2.2.2.2.2.2.2.2.2.2.2.2.2.2.2.2.2.2.2.1 u.2.2.2.2.2.2.2.2.2.2.2.2.2.2.2.2.2.2.2.2.2.1 u.2.2.2.2.2.2.2.2.2.2.2.2.2.2.2.2.2.2.2.2.2.2.1 u.2.2.2.2.2.2.2.2.2.2.2.2.2.2.2.2.2.2.2.2.2.2.2.1 u.2.2.2.2.2.2.2.2.2.2.2.2.2.2.2.2.2.2.2.2.2.2.2.2.1 u.2.2.2.2.2.2.2.2.2.2.2.2.2.2.2.2.2.2.2.2.2.2.2.2.2.1 u.2.2.2.2.2.2.2.2.2.2.2.2.2.2.2.2.2.2.2.2.2.2.2.2.2.2.1 u.2.2.2.2.2.2.2.2.2.2.2.2.2.2.2.2.2.2.2.2.2.2.2.2.2.2.2 := by
  have hA := hI.1.1
  have hn60 := hA.1
  have hc60 := la_c_le S n (S l)
  have hrl := (hA.2.2.1 l hl).1
  refine pk_loop (σ := Nat × St1) (fun g m s => wL_law_210 post L xs J (nI n) x4 (nI l) (nI f) kc ks g (nI s.1) (nI m) s.2.1 s.2.2.1 s.2.2.2.1 s.2.2.2.2.1 s.2.2.2.2.2.1 s.2.2.2.2.2.2.1 s.2.2.2.2.2.2.2.1 s.2.2.2.2.2.2.2.2.1 s.2.2.2.2.2.2.2.2.2.1 s.2.2.2.2.2.2.2.2.2.2.1 s.2.2.2.2.2.2.2.2.2.2.2.1 s.2.2.2.2.2.2.2.2.2.2.2.2.1 s.2.2.2.2.2.2.2.2.2.2.2.2.2.1 s.2.2.2.2.2.2.2.2.2.2.2.2.2.2.1 s.2.2.2.2.2.2.2.2.2.2.2.2.2.2.2.1 s.2.2.2.2.2.2.2.2.2.2.2.2.2.2.2.2.1 s.2.2.2.2.2.2.2.2.2.2.2.2.2.2.2.2.2.1 s.2.2.2.2.2.2.2.2.2.2.2.2.2.2.2.2.2.2.1 s.2.2.2.2.2.2.2.2.2.2.2.2.2.2.2.2.2.2.2.1 s.2.2.2.2.2.2.2.2.2.2.2.2.2.2.2.2.2.2.2.2.1 s.2.2.2.2.2.2.2.2.2.2.2.2.2.2.2.2.2.2.2.2.2.1 s.2.2.2.2.2.2.2.2.2.2.2.2.2.2.2.2.2.2.2.2.2.2.1 s.2.2.2.2.2.2.2.2.2.2.2.2.2.2.2.2.2.2.2.2.2.2.2.1 s.2.2.2.2.2.2.2.2.2.2.2.2.2.2.2.2.2.2.2.2.2.2.2.2.1 s.2.2.2.2.2.2.2.2.2.2.2.2.2.2.2.2.2.2.2.2.2.2.2.2.2.1 s.2.2.2.2.2.2.2.2.2.2.2.2.2.2.2.2.2.2.2.2.2.2.2.2.2.2.1 s.2.2.2.2.2.2.2.2.2.2.2.2.2.2.2.2.2.2.2.2.2.2.2.2.2.2.2.1 s.2.2.2.2.2.2.2.2.2.2.2.2.2.2.2.2.2.2.2.2.2.2.2.2.2.2.2.2) (fun m s => s.1 = la_c S m (S l) ∧ la_q s.2 = la_q u) n 0 (0, u) (by omega) ⟨rfl, rfl⟩
    (fun g s h => ?_) (fun g m s hm h hw => ?_)
  · obtain ⟨c, v⟩ := s
    obtain ⟨h1, e⟩ := h
    dsimp only at h1 e ⊢
    subst h1
    have hIv := la_I_q e hI
    refine pk_le n n (fun _ => pk_lt l f (fun z => absurd z (by omega)) (fun _ => ?_)) (fun z => absurd z (by omega))
    refine la_membersQ (u := v) hIv hl (br_t rfl ?_)
    refine la_membersQ (u := v) hIv (show f < n by omega) (br_t (by rw [hf.1]) ?_)
    exact la_law392 (u := v) hIv hl hfl hf.1 (fun u' y => H u' (y.trans e))
  · obtain ⟨c, v⟩ := s
    obtain ⟨h1, e⟩ := h
    dsimp only at h1 e ⊢
    subst h1
    have hIv := la_I_q e hI
    have hrm := (hA.2.2.1 m hm).1
    have hl8 := hrl.2.1
    have hm8 := hrm.2.1
    refine pk_le n m (fun z => absurd z (by omega)) (fun _ => ?_)
    refine la_lengthQ (u := v) hIv hl ?_
    refine la_lengthQ (u := v) hIv hm ?_
    refine pk_eq (X l).length (X m).length (fun z => ?_) (fun z => ?_)
    · exact la_law241 (u := v) hIv hl hm hf hfl (Or.inl ⟨rfl, z⟩) (fun v' y => hw (_, v') ⟨rfl, y.trans e⟩)
    · exact la_law241 (u := v) hIv hl hm hf hfl (Or.inr ⟨rfl, z⟩) (fun v' y => hw (_, v') ⟨rfl, y.trans e⟩)
theorem la_law190 {post : Int32 → Prop} {L : Nat} {xs : Nat → Int32} {kc ks : Nat} {u : St1} {n k b : Nat} {T : Nat → Nat} {X : Nat → List Nat} {S : Nat → Nat} {SL : Nat → List Nat}
    (hL : L ≤ 260) (hI : la_I n k T X S SL u) (hn : n ≤ 50) (hT : ∀ l, l < n → T l ≤ b) (hb : b ≤ 900) (H : post 1) : ∃ g, wL_law_190 post L xs (nI n) (nI k) kc ks g 0 u.1 u.2.1 u.2.2.1 u.2.2.2.1 u.2.2.2.2.1 u.2.2.2.2.2.1 u.2.2.2.2.2.2.1 u.2.2.2.2.2.2.2.1 u.2.2.2.2.2.2.2.2.1 u.2.2.2.2.2.2.2.2.2.1 u.2.2.2.2.2.2.2.2.2.2.1 u.2.2.2.2.2.2.2.2.2.2.2.1 u.2.2.2.2.2.2.2.2.2.2.2.2.1 u.2.2.2.2.2.2.2.2.2.2.2.2.2.1 u.2.2.2.2.2.2.2.2.2.2.2.2.2.2.1 u.2.2.2.2.2.2.2.2.2.2.2.2.2.2.2.1 u.2.2.2.2.2.2.2.2.2.2.2.2.2.2.2.2.1 u.2.2.2.2.2.2.2.2.2.2.2.2.2.2.2.2.2.1 u.2.2.2.2.2.2.2.2.2.2.2.2.2.2.2.2.2.2.1 u.2.2.2.2.2.2.2.2.2.2.2.2.2.2.2.2.2.2.2.1 u.2.2.2.2.2.2.2.2.2.2.2.2.2.2.2.2.2.2.2.2.1 u.2.2.2.2.2.2.2.2.2.2.2.2.2.2.2.2.2.2.2.2.2.1 u.2.2.2.2.2.2.2.2.2.2.2.2.2.2.2.2.2.2.2.2.2.2.1 u.2.2.2.2.2.2.2.2.2.2.2.2.2.2.2.2.2.2.2.2.2.2.2.1 u.2.2.2.2.2.2.2.2.2.2.2.2.2.2.2.2.2.2.2.2.2.2.2.2.1 u.2.2.2.2.2.2.2.2.2.2.2.2.2.2.2.2.2.2.2.2.2.2.2.2.2.1 u.2.2.2.2.2.2.2.2.2.2.2.2.2.2.2.2.2.2.2.2.2.2.2.2.2.2.1 u.2.2.2.2.2.2.2.2.2.2.2.2.2.2.2.2.2.2.2.2.2.2.2.2.2.2.2 := by
  refine pk_loop (σ := St1) (fun g l v => wL_law_190 post L xs (nI n) (nI k) kc ks g (nI l) v.1 v.2.1 v.2.2.1 v.2.2.2.1 v.2.2.2.2.1 v.2.2.2.2.2.1 v.2.2.2.2.2.2.1 v.2.2.2.2.2.2.2.1 v.2.2.2.2.2.2.2.2.1 v.2.2.2.2.2.2.2.2.2.1 v.2.2.2.2.2.2.2.2.2.2.1 v.2.2.2.2.2.2.2.2.2.2.2.1 v.2.2.2.2.2.2.2.2.2.2.2.2.1 v.2.2.2.2.2.2.2.2.2.2.2.2.2.1 v.2.2.2.2.2.2.2.2.2.2.2.2.2.2.1 v.2.2.2.2.2.2.2.2.2.2.2.2.2.2.2.1 v.2.2.2.2.2.2.2.2.2.2.2.2.2.2.2.2.1 v.2.2.2.2.2.2.2.2.2.2.2.2.2.2.2.2.2.1 v.2.2.2.2.2.2.2.2.2.2.2.2.2.2.2.2.2.2.1 v.2.2.2.2.2.2.2.2.2.2.2.2.2.2.2.2.2.2.2.1 v.2.2.2.2.2.2.2.2.2.2.2.2.2.2.2.2.2.2.2.2.1 v.2.2.2.2.2.2.2.2.2.2.2.2.2.2.2.2.2.2.2.2.2.1 v.2.2.2.2.2.2.2.2.2.2.2.2.2.2.2.2.2.2.2.2.2.2.1 v.2.2.2.2.2.2.2.2.2.2.2.2.2.2.2.2.2.2.2.2.2.2.2.1 v.2.2.2.2.2.2.2.2.2.2.2.2.2.2.2.2.2.2.2.2.2.2.2.2.1 v.2.2.2.2.2.2.2.2.2.2.2.2.2.2.2.2.2.2.2.2.2.2.2.2.2.1 v.2.2.2.2.2.2.2.2.2.2.2.2.2.2.2.2.2.2.2.2.2.2.2.2.2.2.1 v.2.2.2.2.2.2.2.2.2.2.2.2.2.2.2.2.2.2.2.2.2.2.2.2.2.2.2) (fun l v => la_q v = la_q u) n 0 u (by omega) rfl
    (fun g v e => ?_) (fun g l v hl e hw => ?_)
  · exact pk_le n n (fun _ => la_law625 (u := v) hL (la_I_q e hI) hn hT hb H) (fun z => absurd z (by omega))
  · refine pk_le n l (fun z => absurd z (by omega)) (fun _ => ?_)
    refine la_groupQ (u := v) (la_I_q e hI) hl (fun f hfl hf => ?_)
    exact la_law210 (u := v) (la_I_q e hI) hl hf hfl (fun v' y => hw v' (y.trans e))
/-! the law's ranks -/
theorem la_law60 {post : Int32 → Prop} {L : Nat} {xs : Nat → Int32} {kc ks : Nat} {u : St1} {n k b : Nat} {T : Nat → Nat} {X : Nat → List Nat} {S : Nat → Nat} {SL : Nat → List Nat}
    (hL : L ≤ 260) (hI : la_I n k T X S SL u) (hn : n ≤ 50) (hT : ∀ l, l < n → T l ≤ b) (hb : b ≤ 900) (H : post 1) : ∃ g, wL_law_60 post L xs (nI n) kc ks u.1 u.2.1 u.2.2.1 u.2.2.2.1 u.2.2.2.2.1 u.2.2.2.2.2.1 u.2.2.2.2.2.2.1 u.2.2.2.2.2.2.2.1 u.2.2.2.2.2.2.2.2.1 u.2.2.2.2.2.2.2.2.2.1 u.2.2.2.2.2.2.2.2.2.2.1 u.2.2.2.2.2.2.2.2.2.2.2.1 u.2.2.2.2.2.2.2.2.2.2.2.2.1 u.2.2.2.2.2.2.2.2.2.2.2.2.2.1 u.2.2.2.2.2.2.2.2.2.2.2.2.2.2.1 u.2.2.2.2.2.2.2.2.2.2.2.2.2.2.2.1 u.2.2.2.2.2.2.2.2.2.2.2.2.2.2.2.2.1 u.2.2.2.2.2.2.2.2.2.2.2.2.2.2.2.2.2.1 u.2.2.2.2.2.2.2.2.2.2.2.2.2.2.2.2.2.2.1 u.2.2.2.2.2.2.2.2.2.2.2.2.2.2.2.2.2.2.2.1 u.2.2.2.2.2.2.2.2.2.2.2.2.2.2.2.2.2.2.2.2.1 u.2.2.2.2.2.2.2.2.2.2.2.2.2.2.2.2.2.2.2.2.2.1 u.2.2.2.2.2.2.2.2.2.2.2.2.2.2.2.2.2.2.2.2.2.2.1 u.2.2.2.2.2.2.2.2.2.2.2.2.2.2.2.2.2.2.2.2.2.2.2.1 u.2.2.2.2.2.2.2.2.2.2.2.2.2.2.2.2.2.2.2.2.2.2.2.2.1 u.2.2.2.2.2.2.2.2.2.2.2.2.2.2.2.2.2.2.2.2.2.2.2.2.2.1 u.2.2.2.2.2.2.2.2.2.2.2.2.2.2.2.2.2.2.2.2.2.2.2.2.2.2.1 u.2.2.2.2.2.2.2.2.2.2.2.2.2.2.2.2.2.2.2.2.2.2.2.2.2.2.2 g 0 0 1000 (-1) 0 := by
  have hO := hI.2
  have hA3 := hI.1.1.2.2.1
  have hkn := hO.1
  have hc : ∀ s, la_c S n s ≤ n := fun s => la_c_le S n s
  have hsum : la_sm (fun j => la_g (la_c S n) (la_c S n) k j) 62 = n := by
    rw [la_sm_ext (show k ≤ 62 by omega) (fun j h1 h2 => la_g_none _ (fun s hs e => by have := la_r_k (c := la_c S n) hs; omega)), la_g_sum]
    exact la_csum S (fun j hj => (hA3 j hj).2.2.1)
  refine pk_loop (σ := Nat × Nat × Int32 × Int32) (fun g j s => wL_law_60 post L xs (nI n) kc ks u.1 u.2.1 u.2.2.1 u.2.2.2.1 u.2.2.2.2.1 u.2.2.2.2.2.1 u.2.2.2.2.2.2.1 u.2.2.2.2.2.2.2.1 u.2.2.2.2.2.2.2.2.1 u.2.2.2.2.2.2.2.2.2.1 u.2.2.2.2.2.2.2.2.2.2.1 u.2.2.2.2.2.2.2.2.2.2.2.1 u.2.2.2.2.2.2.2.2.2.2.2.2.1 u.2.2.2.2.2.2.2.2.2.2.2.2.2.1 u.2.2.2.2.2.2.2.2.2.2.2.2.2.2.1 u.2.2.2.2.2.2.2.2.2.2.2.2.2.2.2.1 u.2.2.2.2.2.2.2.2.2.2.2.2.2.2.2.2.1 u.2.2.2.2.2.2.2.2.2.2.2.2.2.2.2.2.2.1 u.2.2.2.2.2.2.2.2.2.2.2.2.2.2.2.2.2.2.1 u.2.2.2.2.2.2.2.2.2.2.2.2.2.2.2.2.2.2.2.1 u.2.2.2.2.2.2.2.2.2.2.2.2.2.2.2.2.2.2.2.2.1 u.2.2.2.2.2.2.2.2.2.2.2.2.2.2.2.2.2.2.2.2.2.1 u.2.2.2.2.2.2.2.2.2.2.2.2.2.2.2.2.2.2.2.2.2.2.1 u.2.2.2.2.2.2.2.2.2.2.2.2.2.2.2.2.2.2.2.2.2.2.2.1 u.2.2.2.2.2.2.2.2.2.2.2.2.2.2.2.2.2.2.2.2.2.2.2.2.1 u.2.2.2.2.2.2.2.2.2.2.2.2.2.2.2.2.2.2.2.2.2.2.2.2.2.1 u.2.2.2.2.2.2.2.2.2.2.2.2.2.2.2.2.2.2.2.2.2.2.2.2.2.2.1 u.2.2.2.2.2.2.2.2.2.2.2.2.2.2.2.2.2.2.2.2.2.2.2.2.2.2.2 g (nI s.1) (nI s.2.1) s.2.2.1 s.2.2.2 (nI j))
    (fun j s => s.1 = la_sm (fun j => la_g (la_c S n) (la_c S n) k j) j ∧ s.2.1 = min j k ∧ ((j = 0 ∧ s.2.2.1 = 1000 ∧ s.2.2.2 = -1) ∨ (0 < j ∧ (j ≤ k → ∃ t f, t < k ∧ la_r (la_c S n) k t = j - 1 ∧ s.2.2.1 = nI (la_c S n t) ∧ s.2.2.2 = nI f ∧ la_fst S t f ∧ f < n)))) 62 0 (0, 0, 1000, -1) (by omega) ⟨rfl, by simp, Or.inl ⟨rfl, rfl, rfl⟩⟩
    (fun g s h => ?_) (fun g j s hj h hw => ?_)
  · obtain ⟨x3, x4, x5, x6⟩ := s
    obtain ⟨h1, h2, _⟩ := h
    dsimp only at h1 h2 ⊢
    rw [hsum] at h1
    rw [Nat.min_eq_right (by omega)] at h2
    subst h1 h2
    refine pk_le 62 62 (fun _ => br_t rfl ?_) (fun z => absurd z (by omega))
    refine la_groupsQ (u := u) hI (br_t rfl ?_)
    exact la_law190 hL hI hn hT hb H
  · obtain ⟨x3, x4, x5, x6⟩ := s
    obtain ⟨h1, h2, h3⟩ := h
    dsimp only at h1 h2 h3 ⊢
    refine pk_le 62 j (fun z => absurd z (by omega)) (fun _ => ?_)
    refine la_largestQ (u := u) hI (by omega) (fun s f hs hr hfn hf => ?_) (fun hno => ?_)
    · have hjk : j < k := by
        have := la_r_k (c := la_c S n) hs
        omega
      have hcs := hc s
      refine br_f (nI_pos (by omega)) ?_
      refine la_membersQ (u := u) hI hfn ?_
      refine la_groupQ (u := u) hI hfn (fun f' _ hf' => ?_)
      rw [hf.1] at hf' ⊢
      refine br_t (by rw [la_fst_u hf' hf]) ?_
      have hpos : 1 ≤ la_c S n s := la_cn_pos hfn (decide_eq_true hf.1)
      have hgj : la_g (la_c S n) (la_c S n) k j = la_c S n s := by
        rw [← hr]
        exact la_g_at _ hs
      have h120 : wL_law_120 post L xs (wL_law_60 post L xs (nI n) kc ks u.1 u.2.1 u.2.2.1 u.2.2.2.1 u.2.2.2.2.1 u.2.2.2.2.2.1 u.2.2.2.2.2.2.1 u.2.2.2.2.2.2.2.1 u.2.2.2.2.2.2.2.2.1 u.2.2.2.2.2.2.2.2.2.1 u.2.2.2.2.2.2.2.2.2.2.1 u.2.2.2.2.2.2.2.2.2.2.2.1 u.2.2.2.2.2.2.2.2.2.2.2.2.1 u.2.2.2.2.2.2.2.2.2.2.2.2.2.1 u.2.2.2.2.2.2.2.2.2.2.2.2.2.2.1 u.2.2.2.2.2.2.2.2.2.2.2.2.2.2.2.1 u.2.2.2.2.2.2.2.2.2.2.2.2.2.2.2.2.1 u.2.2.2.2.2.2.2.2.2.2.2.2.2.2.2.2.2.1 u.2.2.2.2.2.2.2.2.2.2.2.2.2.2.2.2.2.2.1 u.2.2.2.2.2.2.2.2.2.2.2.2.2.2.2.2.2.2.2.1 u.2.2.2.2.2.2.2.2.2.2.2.2.2.2.2.2.2.2.2.2.1 u.2.2.2.2.2.2.2.2.2.2.2.2.2.2.2.2.2.2.2.2.2.1 u.2.2.2.2.2.2.2.2.2.2.2.2.2.2.2.2.2.2.2.2.2.2.1 u.2.2.2.2.2.2.2.2.2.2.2.2.2.2.2.2.2.2.2.2.2.2.2.1 u.2.2.2.2.2.2.2.2.2.2.2.2.2.2.2.2.2.2.2.2.2.2.2.2.1 u.2.2.2.2.2.2.2.2.2.2.2.2.2.2.2.2.2.2.2.2.2.2.2.2.2.1 u.2.2.2.2.2.2.2.2.2.2.2.2.2.2.2.2.2.2.2.2.2.2.2.2.2.2.1 u.2.2.2.2.2.2.2.2.2.2.2.2.2.2.2.2.2.2.2.2.2.2.2.2.2.2.2 g) (nI n) (nI x3) (nI x4) (nI j) (nI f) (nI (la_c S n s)) kc ks u.1 u.2.1 u.2.2.1 u.2.2.2.1 u.2.2.2.2.1 u.2.2.2.2.2.1 u.2.2.2.2.2.2.1 u.2.2.2.2.2.2.2.1 u.2.2.2.2.2.2.2.2.1 u.2.2.2.2.2.2.2.2.2.1 u.2.2.2.2.2.2.2.2.2.2.1 u.2.2.2.2.2.2.2.2.2.2.2.1 u.2.2.2.2.2.2.2.2.2.2.2.2.1 u.2.2.2.2.2.2.2.2.2.2.2.2.2.1 u.2.2.2.2.2.2.2.2.2.2.2.2.2.2.1 u.2.2.2.2.2.2.2.2.2.2.2.2.2.2.2.1 u.2.2.2.2.2.2.2.2.2.2.2.2.2.2.2.2.1 u.2.2.2.2.2.2.2.2.2.2.2.2.2.2.2.2.2.1 u.2.2.2.2.2.2.2.2.2.2.2.2.2.2.2.2.2.2.1 u.2.2.2.2.2.2.2.2.2.2.2.2.2.2.2.2.2.2.2.1 u.2.2.2.2.2.2.2.2.2.2.2.2.2.2.2.2.2.2.2.2.1 u.2.2.2.2.2.2.2.2.2.2.2.2.2.2.2.2.2.2.2.2.2.1 u.2.2.2.2.2.2.2.2.2.2.2.2.2.2.2.2.2.2.2.2.2.2.1 u.2.2.2.2.2.2.2.2.2.2.2.2.2.2.2.2.2.2.2.2.2.2.2.1 u.2.2.2.2.2.2.2.2.2.2.2.2.2.2.2.2.2.2.2.2.2.2.2.2.1 u.2.2.2.2.2.2.2.2.2.2.2.2.2.2.2.2.2.2.2.2.2.2.2.2.2.1 u.2.2.2.2.2.2.2.2.2.2.2.2.2.2.2.2.2.2.2.2.2.2.2.2.2.2.1 u.2.2.2.2.2.2.2.2.2.2.2.2.2.2.2.2.2.2.2.2.2.2.2.2.2.2.2 := by
        unfold wL_law_120
        refine pk_le 1 (la_c S n s) (fun _ => nm_r (nI_add _ _) (nm_r (nI_1 _) (nm_r (nI_1 j) ?_))) (fun z => absurd z (by omega))
        refine hw (x3 + la_c S n s, x4 + 1, nI (la_c S n s), nI f) ⟨?_, ?_, Or.inr ⟨by omega, fun _ => ⟨s, f, hs, by omega, rfl, rfl, hf, hfn⟩⟩⟩
        · dsimp only
          show _ = la_sm (fun j => la_g (la_c S n) (la_c S n) k j) j + la_g (la_c S n) (la_c S n) k j
          rw [← h1, hgj]
        · dsimp only
          clear h3 hw
          omega
      rcases h3 with ⟨j0, e5, e6⟩ | ⟨j0, h3⟩
      · subst e5
        refine pk_lt 1000 (la_c S n s) (fun z => absurd z (by omega)) (fun _ => pk_eq (la_c S n s) 1000 (fun z => absurd z (by omega)) (fun _ => h120))
      · obtain ⟨t, f0, ht, hrt, e5, e6, hf0, hf0n⟩ := h3 (by omega)
        subst e5 e6
        have hct := hc t
        have hbt := la_r_b (c := la_c S n) ht hs (by omega)
        refine pk_lt (la_c S n t) (la_c S n s) (fun z => absurd z (by omega)) (fun _ => pk_eq (la_c S n s) (la_c S n t) (fun z => ?_) (fun _ => h120))
        have hff := la_fst_lt hO.2.2 hf0 hf hfn (show t < s by omega)
        exact pk_lt f f0 (fun y => absurd y (by omega)) (fun _ => h120)
    · have hjk : k ≤ j := by
        rcases Nat.lt_or_ge j k with z | z
        · obtain ⟨s, hs, e⟩ := la_r_sur (c := la_c S n) z
          exact absurd e (hno s hs)
        · exact z
      refine br_t (by decide) (br_t rfl ?_)
      refine la_groupsQ (u := u) hI ?_
      refine pk_le k j (fun _ => nm_r (nI_1 j) (hw (x3, x4, x5, x6) ⟨?_, ?_, Or.inr ⟨by omega, fun z => absurd z (by omega)⟩⟩)) (fun z => absurd z (by omega))
      · dsimp only
        show _ = la_sm (fun j => la_g (la_c S n) (la_c S n) k j) j + la_g (la_c S n) (la_c S n) k j
        rw [la_g_none _ hno, ← h1]
        rfl
      · dsimp only
        clear h3 hw
        omega
theorem la_init {post : St1 → Prop} {u : St0} (H : ∀ T X S SL u', la_I 0 0 T X S SL u' → u'.1 = u.1 → post u') : wpX_init post 20 4813 u := by
  unfold wpX_init
  refine ⟨by omega, by omega, by omega, by omega, by omega, by omega, by omega, by omega, by omega, by omega, by omega, by omega, by omega, by omega, by omega, by omega, by omega, by omega, by omega, by omega, by omega, by omega, by omega, by omega, by omega, by omega, by omega, by omega, by omega, by omega, by omega, by omega, by omega, by omega, by omega, by omega, by omega, by omega, by omega, by omega, ?_⟩
  exact la_empty (fun b hb => H (fun _ => 0) (fun _ => []) (fun _ => 0) (fun _ => []) _ (la_I_0 hb) rfl)
theorem i_vc (xs : Nat → Int32) (L : Nat) (hL : L ≤ 260) : wpL_law (fun r => r = 1) L xs := by
  unfold wpL_law
  refine ⟨20, 4813, by omega, by omega, ?_⟩
  refine la_init (fun T X S SL u1 h1 d1 => ?_)
  refine la_fill (u := u1) (n := 0) (a := 0) (m := 20) (b := 0) hL (by omega) (by omega) h1 d1 (fun l h => absurd h (by omega)) (by omega) (fun k T X S SL u2 h2 t2 d2 => ?_)
  refine la_cell (c := 22) hL (by omega) (fun x => ?_)
  refine la_expire (u := u2) (t := 60) h2 d2 t2 (by omega) (fun r c k T X S SL u3 hc h3 t3 d3 => ?_)
  refine la_fill (u := u3) (n := c) (a := 30) (m := 6) (b := 60) hL (by omega) (by omega) h3 d3 t3 (by omega) (fun k T X S SL u4 h4 t4 d4 => ?_)
  refine la_linesQ (u := u4) h4 ?_
  exact la_law60 (u := u4) hL h4 (by omega) t4 (by omega) rfl
end
