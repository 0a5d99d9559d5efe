section
/-! counts, pigeon holes, chains -/
theorem qv_php {l : List Nat} {N : Nat} (h : l.Nodup) (hb : ∀ v, v ∈ l → v < N) : l.length ≤ N := by
  have h2 := List.Nodup.length_le_of_subset (l₂ := List.range N) h (fun v hv => List.mem_range.mpr (hb v hv))
  rwa [List.length_range] at h2
theorem qv_phpF : ∀ (N n : Nat) (h : Nat → Nat), (∀ i, i < n → h i < N) → (∀ i j, i < j → j < n → h i ≠ h j) → n ≤ N := by
  intro N
  induction N with
  | zero =>
    intro n h hb _
    rcases Nat.eq_zero_or_pos n with e | e
    · omega
    · exact absurd (hb 0 e) (by omega)
  | succ N ih =>
    intro n h hb hi
    by_cases hx : ∃ i, i < n ∧ h i = N
    · obtain ⟨i, hin, e⟩ := hx
      have hA : ∀ j, j < n - 1 → (fun j => if j = i then h (n - 1) else h j) j < N := by
        intro j hj
        dsimp only
        split
        · have h1 := hb (n - 1) (by omega)
          have h2 := hi i (n - 1) (by omega) (by omega)
          omega
        · rename_i hne
          have h1 := hb j (by omega)
          have h2 : h j ≠ N := by
            rcases Nat.lt_or_gt_of_ne hne with g | g
            · have := hi j i g hin
              omega
            · have := hi i j g (by omega)
              omega
          omega
      have hB : ∀ j k, j < k → k < n - 1 → (fun j => if j = i then h (n - 1) else h j) j ≠ (fun j => if j = i then h (n - 1) else h j) k := by
        intro j k hjk hk
        dsimp only
        split
        · rw [if_neg (by omega)]
          exact fun z => hi k (n - 1) (by omega) (by omega) z.symm
        · split
          · exact hi j (n - 1) (by omega) (by omega)
          · exact hi j k hjk (by omega)
      have := ih (n - 1) _ hA hB
      omega
    · have hA : ∀ i, i < n → h i < N := by
        intro i hin
        have h1 := hb i hin
        have h2 : h i ≠ N := fun e => hx ⟨i, hin, e⟩
        omega
      have := ih n h hA hi
      omega
def qv_cnt (a : Nat → Int32) : Nat → Nat
  | 0 => 0
  | n + 1 => qv_cnt a n + (if a n = 0 then 0 else 1)
theorem qv_cnt_le (a : Nat → Int32) : ∀ n, qv_cnt a n ≤ n := by
  intro n
  induction n with
  | zero => exact Nat.le_refl 0
  | succ n ih =>
    show qv_cnt a n + (if a n = 0 then 0 else 1) ≤ n + 1
    split <;> omega
theorem qv_cnt_ext {a b : Nat → Int32} : ∀ n, (∀ v, v < n → (a v = 0 ↔ b v = 0)) → qv_cnt a n = qv_cnt b n := by
  intro n
  induction n with
  | zero => intro _; rfl
  | succ n ih =>
    intro h
    show qv_cnt a n + (if a n = 0 then 0 else 1) = qv_cnt b n + (if b n = 0 then 0 else 1)
    rw [ih (fun v hv => h v (by omega))]
    have h1 := h n (by omega)
    by_cases e : b n = 0
    · rw [if_pos e, if_pos (h1.mpr e)]
    · rw [if_neg e, if_neg (fun z => e (h1.mp z))]
theorem qv_cnt_set {a : Nat → Int32} {v : Nat} {y : Int32} (hv : a v = 0) (hy : y ≠ 0) : ∀ n, v < n → qv_cnt (upd a v y) n = qv_cnt a n + 1 := by
  intro n
  induction n with
  | zero => intro h; omega
  | succ n ih =>
    intro h
    show qv_cnt (upd a v y) n + (if upd a v y n = 0 then 0 else 1) = qv_cnt a n + (if a n = 0 then 0 else 1) + 1
    by_cases e : v = n
    · subst e
      rw [pk_us, if_neg hy, if_pos hv, qv_cnt_ext v (fun w hw => by rw [pk_un (show w ≠ v by omega)])]
    · rw [pk_un (show n ≠ v by omega), ih (by omega)]
      omega
theorem qv_cnt_clr {a : Nat → Int32} {v : Nat} (hv : a v ≠ 0) : ∀ n, v < n → qv_cnt (upd a v 0) n + 1 = qv_cnt a n := by
  intro n
  induction n with
  | zero => intro h; omega
  | succ n ih =>
    intro h
    show qv_cnt (upd a v 0) n + (if upd a v 0 n = 0 then 0 else 1) + 1 = qv_cnt a n + (if a n = 0 then 0 else 1)
    by_cases e : v = n
    · subst e
      rw [pk_us, if_pos rfl, if_neg hv, qv_cnt_ext v (fun w hw => by rw [pk_un (show w ≠ v by omega)])]
    · rw [pk_un (show n ≠ v by omega)]
      have := ih (by omega)
      omega
theorem qv_cnt_free (a : Nat → Int32) : ∀ n, qv_cnt a n < n → ∃ v, v < n ∧ a v = 0 := by
  intro n
  induction n with
  | zero => intro h; omega
  | succ n ih =>
    intro h
    by_cases e : a n = 0
    · exact ⟨n, by omega, e⟩
    · have h2 : qv_cnt a n + (if a n = 0 then 0 else 1) < n + 1 := h
      rw [if_neg e] at h2
      obtain ⟨v, hv, h3⟩ := ih (by omega)
      exact ⟨v, by omega, h3⟩
/-- the list l of slots hangs at x along the array a of the next older ones -/
def qv_ch (a : Nat → Int32) : List Nat → Int32 → Prop
  | [] => fun x => x = -1
  | v :: l => fun x => x = nI v ∧ qv_ch a l (a v)
theorem qv_ch_upd {a : Nat → Int32} {v : Nat} {y : Int32} : ∀ (l : List Nat) (x : Int32), v ∉ l → qv_ch a l x → qv_ch (upd a v y) l x
  | [], _, _, h => h
  | w :: l, x, hv, h => by
    refine ⟨h.1, ?_⟩
    rw [pk_un (fun (e : w = v) => hv (List.mem_cons.mpr (Or.inl e.symm)))]
    exact qv_ch_upd l _ (fun z => hv (List.mem_cons_of_mem _ z)) h.2
theorem qv_ch_cut {a : Nat → Int32} {v : Nat} {q : List Nat} : ∀ (p : List Nat) (x : Int32), v ∉ p → qv_ch a (p ++ v :: q) x → qv_ch (upd a v (-1)) (p ++ [v]) x ∧ qv_ch a q (a v)
  | [], x, _, h => ⟨⟨h.1, pk_us⟩, h.2⟩
  | w :: p, x, hv, h => by
    have h2 := qv_ch_cut p (a w) (fun z => hv (List.mem_cons_of_mem _ z)) h.2
    refine ⟨⟨h.1, ?_⟩, h2.2⟩
    rw [pk_un (fun (e : w = v) => hv (List.mem_cons.mpr (Or.inl e.symm)))]
    exact h2.1
theorem qv_ch_skip {a : Nat → Int32} {v w : Nat} {q : List Nat} (hq : w ∉ q) : ∀ (p : List Nat) (x : Int32), w ∉ p → qv_ch a (p ++ w :: v :: q) x → qv_ch (upd a w (a v)) (p ++ w :: q) x
  | [], x, _, h => by
    refine ⟨h.1, ?_⟩
    rw [pk_us]
    exact qv_ch_upd q _ hq h.2.2
  | u :: p, x, hv, h => by
    refine ⟨h.1, ?_⟩
    rw [pk_un (fun (e : u = w) => hv (List.mem_cons.mpr (Or.inl e.symm)))]
    exact qv_ch_skip hq p _ (fun z => hv (List.mem_cons_of_mem _ z)) h.2
/-- the slots of a list freed -/
def qv_clr (a : Nat → Int32) : List Nat → Nat → Int32
  | [] => a
  | w :: q => qv_clr (upd a w 0) q
theorem qv_clr_in : ∀ (q : List Nat) (a : Nat → Int32) (v : Nat), (v ∈ q ∨ a v = 0) → qv_clr a q v = 0
  | [], a, v, h => by
    rcases h with h | h
    · exact absurd h (List.not_mem_nil)
    · exact h
  | w :: q, a, v, h => by
    refine qv_clr_in q (upd a w 0) v ?_
    by_cases e : v = w
    · right
      rw [e, pk_us]
    · rw [pk_un e]
      rcases h with h | h
      · rcases List.mem_cons.mp h with g | g
        · exact absurd g e
        · exact Or.inl g
      · exact Or.inr h
theorem qv_clr_out : ∀ (q : List Nat) (a : Nat → Int32) (v : Nat), v ∉ q → qv_clr a q v = a v
  | [], a, v, _ => rfl
  | w :: q, a, v, h => by
    have h1 : qv_clr (upd a w 0) q v = upd a w 0 v := qv_clr_out q (upd a w 0) v (fun z => h (List.mem_cons_of_mem _ z))
    rw [pk_un (fun (e : v = w) => h (List.mem_cons.mpr (Or.inl e)))] at h1
    exact h1
theorem qv_clr_cnt : ∀ (q : List Nat) (a : Nat → Int32), q.Nodup → (∀ v, v ∈ q → v < 24 ∧ a v ≠ 0) → qv_cnt (qv_clr a q) 24 + q.length = qv_cnt a 24
  | [], a, _, _ => rfl
  | w :: q, a, hn, h => by
    have hw := h w (List.mem_cons.mpr (Or.inl rfl))
    have h1 := qv_clr_cnt q (upd a w 0) (List.nodup_cons.mp hn).2 (fun v hv => by
      have h2 := h v (List.mem_cons_of_mem _ hv)
      refine ⟨h2.1, ?_⟩
      rw [pk_un (fun (e : v = w) => (List.nodup_cons.mp hn).1 (by rw [← e]; exact hv))]
      exact h2.2)
    have h3 := qv_cnt_clr hw.2 24 hw.1
    show qv_cnt (qv_clr (upd a w 0) q) 24 + (q.length + 1) = qv_cnt a 24
    omega
/-- arrays shifted: one place down from place p up to c, one place up from c up to n -/
def qv_shl (a : Nat → Int32) (p c : Nat) : Nat → Int32 := fun j => if p ≤ j ∧ j < c then a (j + 1) else a j
def qv_shr (a : Nat → Int32) (c n : Nat) : Nat → Int32 := fun j => if c < j ∧ j ≤ n then a (j - 1) else a j
theorem qv_shl0 (a : Nat → Int32) (p : Nat) : qv_shl a p p = a := by
  funext j
  unfold qv_shl
  rw [if_neg (by omega)]
theorem qv_shr0 (a : Nat → Int32) (n : Nat) : qv_shr a n n = a := by
  funext j
  unfold qv_shr
  rw [if_neg (by omega)]
theorem qv_shlS (a : Nat → Int32) {p c : Nat} (h : p ≤ c) : upd (qv_shl a p c) c (qv_shl a p c (c + 1)) = qv_shl a p (c + 1) := by
  funext j
  by_cases e : j = c
  · rw [e, pk_us]
    unfold qv_shl
    rw [if_neg (by omega), if_pos (by omega)]
  · rw [pk_un e]
    unfold qv_shl
    by_cases g : p ≤ j ∧ j < c
    · rw [if_pos g, if_pos (by omega)]
    · rw [if_neg g, if_neg (by omega)]
theorem qv_shrS (a : Nat → Int32) {c n : Nat} (h : c + 1 ≤ n) : upd (qv_shr a (c + 1) n) (c + 1) (qv_shr a (c + 1) n c) = qv_shr a c n := by
  funext j
  by_cases e : j = c + 1
  · rw [e, pk_us]
    unfold qv_shr
    rw [if_neg (by omega), if_pos (by omega)]
    rfl
  · rw [pk_un e]
    unfold qv_shr
    by_cases g : c + 1 < j ∧ j ≤ n
    · rw [if_pos g, if_pos (by omega)]
    · rw [if_neg g, if_neg (by omega)]
end
section
/-! the pictures: places and keys (qv_A), chains of keys (qv_H), slots (qv_S), numbers (qv_N) -/
def qv_A (n : Nat) (K : Nat → Nat) (a1 : Nat → Int32) : Prop := n ≤ 24 ∧ (∀ i, i < n → a1 i = nI (K i) ∧ 0 < K i ∧ K i < 2401) ∧ (∀ i j, i < j → j < n → K i < K j)
def qv_H (n : Nat) (K : Nat → Nat) (M : Nat → List Nat) (a2 a7 : Nat → Int32) : Prop := (∀ i, i < n → M (K i) ≠ [] ∧ qv_ch a7 (M (K i)) (a2 i)) ∧ (∀ k, M k ≠ [] → ∃ i, i < n ∧ K i = k)
def qv_S (M : Nat → List Nat) (a3 : Nat → Int32) : Prop := (∀ k, (M k).Nodup) ∧ (∀ k k' v, v ∈ M k → v ∈ M k' → k = k') ∧ (∀ k v, v ∈ M k → v < 24 ∧ a3 v ≠ 0) ∧ (∀ v, v < 24 → a3 v ≠ 0 → ∃ k, v ∈ M k)
def qv_N (M : Nat → List Nat) (a4 : Nat → Int32) (m : Nat) : Prop := (∀ k v, v ∈ M k → ∃ j, j < m ∧ a4 v = nI j) ∧ (∀ k k' v w, v ∈ M k → w ∈ M k' → a4 v = a4 w → v = w)
def qv_U (a8 : Nat → Int32) : Prop := ∀ u, u < 3 → ∃ k, k < 2401 ∧ a8 u = nI k
def qv_T (t b : Nat) : Prop := t ≤ 4 ∧ b + 7 ^ (4 - t) ≤ 2401 ∧ (0 < t → 0 < b)
def qv_add (M : Nat → List Nat) (k v : Nat) : Nat → List Nat := fun j => if j = k then v :: M j else M j
def qv_del (M : Nat → List Nat) (v : Nat) : Nat → List Nat := fun j => (M j).erase v
def qv_cut (M : Nat → List Nat) (k s : Nat) : Nat → List Nat := fun j => if j = k then (M j).take s else M j
def qv_kin (K : Nat → Nat) (p k : Nat) : Nat → Nat := fun j => if j < p then K j else if j = p then k else K (j - 1)
def qv_kdr (K : Nat → Nat) (p : Nat) : Nat → Nat := fun j => if j < p then K j else K (j + 1)
theorem qv_kin1 {K : Nat → Nat} {p k i : Nat} (h : i < p) : qv_kin K p k i = K i := if_pos h
theorem qv_kin2 {K : Nat → Nat} {p k : Nat} : qv_kin K p k p = k := by
  unfold qv_kin
  rw [if_neg (by omega), if_pos rfl]
theorem qv_kin3 {K : Nat → Nat} {p k i : Nat} (h : p < i) : qv_kin K p k i = K (i - 1) := by
  unfold qv_kin
  rw [if_neg (by omega), if_neg (by omega)]
theorem qv_kdr1 {K : Nat → Nat} {p i : Nat} (h : i < p) : qv_kdr K p i = K i := if_pos h
theorem qv_kdr2 {K : Nat → Nat} {p i : Nat} (h : p ≤ i) : qv_kdr K p i = K (i + 1) := if_neg (by omega)
theorem qv_shl1 {a : Nat → Int32} {p c i : Nat} (h : i < p) : qv_shl a p c i = a i := if_neg (by omega)
theorem qv_shl2 {a : Nat → Int32} {p c i : Nat} (h : p ≤ i) (h2 : i < c) : qv_shl a p c i = a (i + 1) := if_pos ⟨h, h2⟩
theorem qv_shr1 {a : Nat → Int32} {c n i : Nat} (h : i ≤ c) : qv_shr a c n i = a i := if_neg (by omega)
theorem qv_shr2 {a : Nat → Int32} {c n i : Nat} (h : c < i) (h2 : i ≤ n) : qv_shr a c n i = a (i - 1) := if_pos ⟨h, h2⟩
theorem qv_inj {n : Nat} {K : Nat → Nat} {a1 : Nat → Int32} (hA : qv_A n K a1) {i j : Nat} (hi : i < n) (hj : j < n) (e : K i = K j) : i = j := by
  rcases Nat.lt_trichotomy i j with h | h | h
  · have := hA.2.2 i j h hj
    omega
  · exact h
  · have := hA.2.2 j i h hi
    omega
theorem qv_A_ins {n p k : Nat} {K : Nat → Nat} {a1 : Nat → Int32} (hA : qv_A n K a1) (hn : n < 24) (hp : p ≤ n) (hk : 0 < k) (hk2 : k < 2401) (lo : ∀ j, j < p → K j < k) (hi : ∀ j, p ≤ j → j < n → k < K j) : qv_A (n + 1) (qv_kin K p k) (upd (qv_shr a1 p n) p (nI k)) := by
  obtain ⟨h1, h2, h3⟩ := hA
  refine ⟨by omega, ?_, ?_⟩
  · intro i hin
    rcases Nat.lt_trichotomy i p with h | h | h
    · rw [pk_un (by omega), qv_kin1 h, qv_shr1 (by omega)]
      exact h2 i (by omega)
    · rw [h, pk_us, qv_kin2]
      exact ⟨rfl, hk, hk2⟩
    · rw [pk_un (by omega), qv_kin3 h, qv_shr2 h (by omega)]
      exact h2 (i - 1) (by omega)
  · intro i j hij hj
    rcases Nat.lt_trichotomy i p with h | h | h
    · rw [qv_kin1 h]
      rcases Nat.lt_trichotomy j p with g | g | g
      · rw [qv_kin1 g]
        exact h3 i j hij (by omega)
      · rw [g, qv_kin2]
        exact lo i h
      · rw [qv_kin3 g]
        have := lo i h
        have := hi (j - 1) (by omega) (by omega)
        omega
    · rw [h, qv_kin2, qv_kin3 (by omega)]
      exact hi (j - 1) (by omega) (by omega)
    · rw [qv_kin3 h, qv_kin3 (by omega)]
      exact h3 (i - 1) (j - 1) (by omega) (by omega)
theorem qv_A_drop {n p : Nat} {K : Nat → Nat} {a1 : Nat → Int32} (hA : qv_A n K a1) (hp : p < n) : qv_A (n - 1) (qv_kdr K p) (qv_shl a1 p (n - 1)) := by
  obtain ⟨h1, h2, h3⟩ := hA
  refine ⟨by omega, ?_, ?_⟩
  · intro i hin
    rcases Nat.lt_or_ge i p with h | h
    · rw [qv_kdr1 h, qv_shl1 h]
      exact h2 i (by omega)
    · rw [qv_kdr2 h, qv_shl2 h hin]
      exact h2 (i + 1) (by omega)
  · intro i j hij hj
    rcases Nat.lt_or_ge i p with h | h
    · rw [qv_kdr1 h]
      rcases Nat.lt_or_ge j p with g | g
      · rw [qv_kdr1 g]
        exact h3 i j hij (by omega)
      · rw [qv_kdr2 g]
        exact h3 i (j + 1) (by omega) (by omega)
    · rw [qv_kdr2 h, qv_kdr2 (by omega)]
      exact h3 (i + 1) (j + 1) (by omega) (by omega)
theorem qv_add1 {M : Nat → List Nat} {k v : Nat} : qv_add M k v k = v :: M k := if_pos rfl
theorem qv_add2 {M : Nat → List Nat} {k v j : Nat} (h : j ≠ k) : qv_add M k v j = M j := if_neg h
theorem qv_cut1 {M : Nat → List Nat} {k s : Nat} : qv_cut M k s k = (M k).take s := if_pos rfl
theorem qv_cut2 {M : Nat → List Nat} {k s j : Nat} (h : j ≠ k) : qv_cut M k s j = M j := if_neg h
theorem qv_add_mem {M : Nat → List Nat} {k v j w : Nat} : w ∈ qv_add M k v j ↔ (j = k ∧ w = v) ∨ w ∈ M j := by
  by_cases e : j = k
  · rw [e, qv_add1, List.mem_cons]
    constructor
    · rintro (h | h)
      · exact Or.inl ⟨rfl, h⟩
      · exact Or.inr h
    · rintro (h | h)
      · exact Or.inl h.2
      · exact Or.inr h
  · rw [qv_add2 e]
    constructor
    · exact Or.inr
    · rintro (h | h)
      · exact absurd h.1 e
      · exact h
theorem qv_del_mem {M : Nat → List Nat} {a3 : Nat → Int32} (hS : qv_S M a3) {v j w : Nat} : w ∈ qv_del M v j ↔ w ≠ v ∧ w ∈ M j := List.Nodup.mem_erase_iff (hS.1 j)
theorem qv_fresh {M : Nat → List Nat} {a3 : Nat → Int32} (hS : qv_S M a3) {v : Nat} (hv : a3 v = 0) : ∀ j, v ∉ M j := fun j h => (hS.2.2.1 j v h).2 hv
theorem qv_H_push {n p v : Nat} {K : Nat → Nat} {M : Nat → List Nat} {a1 a2 a7 : Nat → Int32} (hA : qv_A n K a1) (hH : qv_H n K M a2 a7) (hp : p < n) (hv : ∀ j, v ∉ M j) : qv_H n K (qv_add M (K p) v) (upd a2 p (nI v)) (upd a7 v (a2 p)) := by
  refine ⟨?_, ?_⟩
  · intro i hi
    by_cases e : i = p
    · rw [e, qv_add1, pk_us]
      refine ⟨List.cons_ne_nil _ _, rfl, ?_⟩
      rw [pk_us]
      exact qv_ch_upd _ _ (hv _) (hH.1 p hp).2
    · rw [qv_add2 (fun z => e (qv_inj hA hi hp z)), pk_un e]
      exact ⟨(hH.1 i hi).1, qv_ch_upd _ _ (hv _) (hH.1 i hi).2⟩
  · intro k hk
    by_cases e : k = K p
    · exact ⟨p, hp, e.symm⟩
    · rw [qv_add2 e] at hk
      exact hH.2 k hk
theorem qv_H_ins {n p v k : Nat} {K : Nat → Nat} {M : Nat → List Nat} {a2 a7 : Nat → Int32} (hH : qv_H n K M a2 a7) (hp : p ≤ n) (hk : M k = []) (hv : ∀ j, v ∉ M j) : qv_H (n + 1) (qv_kin K p k) (qv_add M k v) (upd (qv_shr a2 p n) p (nI v)) (upd a7 v (-1)) := by
  have hne : ∀ i, i < n → K i ≠ k := fun i hi e => (hH.1 i hi).1 (by rw [e]; exact hk)
  refine ⟨?_, ?_⟩
  · intro i hi
    rcases Nat.lt_trichotomy i p with h | h | h
    · rw [qv_kin1 h, qv_add2 (hne i (by omega)), pk_un (by omega), qv_shr1 (by omega)]
      exact ⟨(hH.1 i (by omega)).1, qv_ch_upd _ _ (hv _) (hH.1 i (by omega)).2⟩
    · rw [h, qv_kin2, qv_add1, pk_us, hk]
      refine ⟨List.cons_ne_nil _ _, rfl, ?_⟩
      exact pk_us
    · rw [qv_kin3 h, qv_add2 (hne (i - 1) (by omega)), pk_un (by omega), qv_shr2 h (by omega)]
      exact ⟨(hH.1 (i - 1) (by omega)).1, qv_ch_upd _ _ (hv _) (hH.1 (i - 1) (by omega)).2⟩
  · intro j hj
    by_cases e : j = k
    · exact ⟨p, by omega, by rw [qv_kin2, e]⟩
    · rw [qv_add2 e] at hj
      obtain ⟨i, hi, e2⟩ := hH.2 j hj
      rcases Nat.lt_or_ge i p with g | g
      · exact ⟨i, by omega, by rw [qv_kin1 g, e2]⟩
      · exact ⟨i + 1, by omega, by rw [qv_kin3 (by omega)]; exact e2⟩
theorem qv_erase_ne {l : List Nat} {v : Nat} (h : l.erase v ≠ []) : l ≠ [] := fun e => h (by rw [e]; rfl)
theorem qv_H_skip {n p v w : Nat} {K : Nat → Nat} {M : Nat → List Nat} {a1 a2 a3 a7 : Nat → Int32} {l1 l2 : List Nat} (hA : qv_A n K a1) (hH : qv_H n K M a2 a7) (hS : qv_S M a3) (hp : p < n) (e : M (K p) = l1 ++ w :: v :: l2) : qv_H n K (qv_del M v) a2 (upd a7 w (a7 v)) := by
  have hv : v ∈ M (K p) := by rw [e]; simp
  have hw : w ∈ M (K p) := by rw [e]; simp
  have hnd := hS.1 (K p)
  rw [e, List.nodup_append, List.nodup_cons, List.nodup_cons] at hnd
  obtain ⟨hd1, ⟨hd2, hd3, _⟩, hd5⟩ := hnd
  refine ⟨?_, ?_⟩
  · intro i hi
    by_cases g : i = p
    · rw [g]
      have e2 : qv_del M v (K p) = l1 ++ w :: l2 := by
        show (M (K p)).erase v = _
        rw [e, List.erase_append_right _ (fun z => hd5 v z v (by simp) rfl), List.erase_cons_tail (by
          have : w ≠ v := fun z => hd2 (by rw [z]; simp)
          simpa using this), List.erase_cons_head]
      rw [e2]
      refine ⟨by simp, ?_⟩
      have h2 := (hH.1 p hp).2
      rw [e] at h2
      exact qv_ch_skip (fun z => hd2 (List.mem_cons_of_mem _ z)) l1 _ (fun z => hd5 w z w (by simp) rfl) h2
    · have g1 : v ∉ M (K i) := fun z => g (qv_inj hA hi hp (hS.2.1 _ _ v z hv))
      have g2 : w ∉ M (K i) := fun z => g (qv_inj hA hi hp (hS.2.1 _ _ w z hw))
      have e2 : qv_del M v (K i) = M (K i) := List.erase_of_not_mem g1
      rw [e2]
      exact ⟨(hH.1 i hi).1, qv_ch_upd _ _ g2 (hH.1 i hi).2⟩
  · intro k hk
    exact hH.2 k (qv_erase_ne hk)
theorem qv_H_pop {n p v w : Nat} {K : Nat → Nat} {M : Nat → List Nat} {a1 a2 a3 a7 : Nat → Int32} {l2 : List Nat} (hA : qv_A n K a1) (hH : qv_H n K M a2 a7) (hS : qv_S M a3) (hp : p < n) (e : M (K p) = v :: w :: l2) : qv_H n K (qv_del M v) (upd a2 p (a7 v)) a7 := by
  have hv : v ∈ M (K p) := by rw [e]; simp
  refine ⟨?_, ?_⟩
  · intro i hi
    by_cases g : i = p
    · rw [g, pk_us]
      have e2 : qv_del M v (K p) = w :: l2 := by
        show (M (K p)).erase v = _
        rw [e, List.erase_cons_head]
      rw [e2]
      refine ⟨by simp, ?_⟩
      have h2 := (hH.1 p hp).2
      rw [e] at h2
      exact h2.2
    · have g1 : v ∉ M (K i) := fun z => g (qv_inj hA hi hp (hS.2.1 _ _ v z hv))
      have e2 : qv_del M v (K i) = M (K i) := List.erase_of_not_mem g1
      rw [e2, pk_un g]
      exact hH.1 i hi
  · intro k hk
    exact hH.2 k (qv_erase_ne hk)
theorem qv_H_drop {n p v : Nat} {x : Int32} {K : Nat → Nat} {M : Nat → List Nat} {a1 a2 a3 a7 : Nat → Int32} (hA : qv_A n K a1) (hH : qv_H n K M a2 a7) (hS : qv_S M a3) (hp : p < n) (e : M (K p) = [v]) : qv_H (n - 1) (qv_kdr K p) (qv_del M v) (qv_shl (upd a2 p x) p (n - 1)) a7 := by
  have hv : v ∈ M (K p) := by rw [e]; simp
  have key : ∀ i, i < n → i ≠ p → qv_del M v (K i) ≠ [] ∧ qv_ch a7 (qv_del M v (K i)) (upd a2 p x i) := by
    intro i hi g
    have g1 : v ∉ M (K i) := fun z => g (qv_inj hA hi hp (hS.2.1 _ _ v z hv))
    have e2 : qv_del M v (K i) = M (K i) := List.erase_of_not_mem g1
    rw [e2, pk_un g]
    exact hH.1 i hi
  refine ⟨?_, ?_⟩
  · intro i hi
    rcases Nat.lt_or_ge i p with h | h
    · rw [qv_kdr1 h, qv_shl1 h]
      exact key i (by omega) (by omega)
    · rw [qv_kdr2 h, qv_shl2 h hi]
      exact key (i + 1) (by omega) (by omega)
  · intro k hk
    obtain ⟨i, hi, e2⟩ := hH.2 k (qv_erase_ne hk)
    have g : i ≠ p := by
      intro g
      apply hk
      show (M k).erase v = []
      rw [← e2, g, e, List.erase_cons_head]
    rcases Nat.lt_or_ge i p with h | h
    · exact ⟨i, by omega, by rw [qv_kdr1 h, e2]⟩
    · refine ⟨i - 1, by omega, ?_⟩
      rw [qv_kdr2 (by omega), show i - 1 + 1 = i by omega, e2]
theorem qv_take_mid {l1 l2 : List Nat} {v : Nat} : (l1 ++ v :: l2).take (l1.length + 1) = l1 ++ [v] := by
  induction l1 with
  | nil => rfl
  | cons w l1 ih =>
    show w :: (l1 ++ v :: l2).take (l1.length + 1) = w :: (l1 ++ [v])
    rw [ih]
theorem qv_H_cut {n p v : Nat} {K : Nat → Nat} {M : Nat → List Nat} {a1 a2 a3 a7 : Nat → Int32} {l1 l2 : List Nat} (hA : qv_A n K a1) (hH : qv_H n K M a2 a7) (hS : qv_S M a3) (hp : p < n) (e : M (K p) = l1 ++ v :: l2) : qv_H n K (qv_cut M (K p) (l1.length + 1)) a2 (upd a7 v (-1)) := by
  have hv : v ∈ M (K p) := by rw [e]; simp
  have hnd := hS.1 (K p)
  rw [e, List.nodup_append, List.nodup_cons] at hnd
  obtain ⟨hd1, ⟨hd2, hd3⟩, hd5⟩ := hnd
  refine ⟨?_, ?_⟩
  · intro i hi
    by_cases g : i = p
    · rw [g, qv_cut1, e, qv_take_mid]
      refine ⟨by simp, ?_⟩
      have h2 := (hH.1 p hp).2
      rw [e] at h2
      exact (qv_ch_cut l1 _ (fun z => hd5 v z v (by simp) rfl) h2).1
    · have g1 : v ∉ M (K i) := fun z => g (qv_inj hA hi hp (hS.2.1 _ _ v z hv))
      rw [qv_cut2 (fun z => g (qv_inj hA hi hp z))]
      exact ⟨(hH.1 i hi).1, qv_ch_upd _ _ g1 (hH.1 i hi).2⟩
  · intro k hk
    by_cases g : k = K p
    · exact ⟨p, hp, g.symm⟩
    · rw [qv_cut2 g] at hk
      exact hH.2 k hk
theorem qv_S_add {M : Nat → List Nat} {a3 : Nat → Int32} (hS : qv_S M a3) {v k : Nat} (hv : v < 24) (h0 : a3 v = 0) : qv_S (qv_add M k v) (upd a3 v 1) := by
  have hf := qv_fresh hS h0
  refine ⟨?_, ?_, ?_, ?_⟩
  · intro j
    by_cases e : j = k
    · rw [e, qv_add1]
      exact List.nodup_cons.mpr ⟨hf k, hS.1 k⟩
    · rw [qv_add2 e]
      exact hS.1 j
  · intro j j' w h h'
    rcases qv_add_mem.mp h with g | g
    · rcases qv_add_mem.mp h' with g' | g'
      · rw [g.1, g'.1]
      · exact absurd (g.2 ▸ g') (hf j')
    · rcases qv_add_mem.mp h' with g' | g'
      · exact absurd (g'.2 ▸ g) (hf j)
      · exact hS.2.1 j j' w g g'
  · intro j w h
    rcases qv_add_mem.mp h with g | g
    · rw [g.2, pk_us]
      exact ⟨hv, by decide⟩
    · have e : w ≠ v := fun z => hf j (z ▸ g)
      rw [pk_un e]
      exact hS.2.2.1 j w g
  · intro w hw h
    by_cases e : w = v
    · exact ⟨k, qv_add_mem.mpr (Or.inl ⟨rfl, e⟩)⟩
    · rw [pk_un e] at h
      obtain ⟨j, hj⟩ := hS.2.2.2 w hw h
      exact ⟨j, qv_add_mem.mpr (Or.inr hj)⟩
theorem qv_S_del {M : Nat → List Nat} {a3 : Nat → Int32} (hS : qv_S M a3) (v : Nat) : qv_S (qv_del M v) (upd a3 v 0) := by
  refine ⟨?_, ?_, ?_, ?_⟩
  · intro j
    exact List.Nodup.erase v (hS.1 j)
  · intro j j' w h h'
    exact hS.2.1 j j' w ((qv_del_mem hS).mp h).2 ((qv_del_mem hS).mp h').2
  · intro j w h
    have g := (qv_del_mem hS).mp h
    rw [pk_un g.1]
    exact hS.2.2.1 j w g.2
  · intro w hw h
    have e : w ≠ v := fun z => h (by rw [z, pk_us])
    rw [pk_un e] at h
    obtain ⟨j, hj⟩ := hS.2.2.2 w hw h
    exact ⟨j, (qv_del_mem hS).mpr ⟨e, hj⟩⟩
theorem qv_cut_sub {M : Nat → List Nat} {k s j w : Nat} (h : w ∈ qv_cut M k s j) : w ∈ M j := by
  by_cases e : j = k
  · rw [e, qv_cut1] at h
    rw [e]
    exact List.mem_of_mem_take h
  · rw [qv_cut2 e] at h
    exact h
theorem qv_S_cut {M : Nat → List Nat} {a3 : Nat → Int32} (hS : qv_S M a3) {v k : Nat} {l1 l2 : List Nat} (e : M k = l1 ++ v :: l2) : qv_S (qv_cut M k (l1.length + 1)) (qv_clr a3 l2) := by
  have hnd := hS.1 k
  rw [e, List.nodup_append, List.nodup_cons] at hnd
  obtain ⟨hd1, ⟨hd2, hd3⟩, hd5⟩ := hnd
  have hc : ∀ w, w ∈ qv_cut M k (l1.length + 1) k → w ∉ l2 := by
    intro w hw
    rw [qv_cut1, e, qv_take_mid] at hw
    intro z
    rcases List.mem_append.mp hw with g | g
    · exact hd5 w g w (List.mem_cons_of_mem _ z) rfl
    · rw [List.mem_singleton] at g
      exact hd2 (g ▸ z)
  have hl : ∀ w, w ∈ l2 → w ∈ M k := fun w hw => by rw [e]; simp [hw]
  refine ⟨?_, ?_, ?_, ?_⟩
  · intro j
    by_cases g : j = k
    · rw [g, qv_cut1]
      exact List.Nodup.sublist (List.take_sublist _ _) (hS.1 k)
    · rw [qv_cut2 g]
      exact hS.1 j
  · intro j j' w h h'
    exact hS.2.1 j j' w (qv_cut_sub h) (qv_cut_sub h')
  · intro j w h
    have h1 := hS.2.2.1 j w (qv_cut_sub h)
    have h2 : w ∉ l2 := by
      intro z
      have g : j = k := hS.2.1 j k w (qv_cut_sub h) (hl w z)
      rw [g] at h
      exact hc w h z
    rw [qv_clr_out l2 a3 w h2]
    exact h1
  · intro w hw h
    have h2 : w ∉ l2 := fun z => h (qv_clr_in l2 a3 w (Or.inl z))
    rw [qv_clr_out l2 a3 w h2] at h
    obtain ⟨j, hj⟩ := hS.2.2.2 w hw h
    refine ⟨j, ?_⟩
    by_cases g : j = k
    · rw [g, qv_cut1, e, qv_take_mid]
      rw [g, e] at hj
      rcases List.mem_append.mp hj with z | z
      · exact List.mem_append.mpr (Or.inl z)
      · rcases List.mem_cons.mp z with z | z
        · exact List.mem_append.mpr (Or.inr (List.mem_singleton.mpr z))
        · exact absurd z h2
    · rw [qv_cut2 g]
      exact hj
theorem qv_N_add {M : Nat → List Nat} {a4 : Nat → Int32} {m k v : Nat} (hN : qv_N M a4 m) (hm : m < 2 ^ 31) (hv : ∀ j, v ∉ M j) : qv_N (qv_add M k v) (upd a4 v (nI m)) (m + 1) := by
  have hne : ∀ j w, w ∈ M j → a4 w ≠ nI m := by
    intro j w hw e
    obtain ⟨i, hi, e2⟩ := hN.1 j w hw
    rw [e2, nI_eq (by omega) hm] at e
    omega
  have hup : ∀ j w, w ∈ M j → upd a4 v (nI m) w = a4 w := fun j w hw => pk_un (fun z => hv j (z ▸ hw))
  refine ⟨?_, ?_⟩
  · intro j w h
    rcases qv_add_mem.mp h with g | g
    · rw [g.2, pk_us]
      exact ⟨m, by omega, rfl⟩
    · obtain ⟨i, hi, e2⟩ := hN.1 j w g
      exact ⟨i, by omega, by rw [hup j w g, e2]⟩
  · intro j j' w w' h h' e
    rcases qv_add_mem.mp h with g | g
    · rcases qv_add_mem.mp h' with g' | g'
      · rw [g.2, g'.2]
      · rw [g.2, pk_us, hup j' w' g'] at e
        exact absurd e.symm (hne j' w' g')
    · rcases qv_add_mem.mp h' with g' | g'
      · rw [g'.2, pk_us, hup j w g] at e
        exact absurd e (hne j w g)
      · rw [hup j w g, hup j' w' g'] at e
        exact hN.2 j j' w w' g g' e
theorem qv_N_sub {M M' : Nat → List Nat} {a4 : Nat → Int32} {m : Nat} (hN : qv_N M a4 m) (h : ∀ j w, w ∈ M' j → w ∈ M j) : qv_N M' a4 m := ⟨fun j w hw => hN.1 j w (h j w hw), fun j j' w w' hw hw' e => hN.2 j j' w w' (h j w hw) (h j' w' hw') e⟩
/-- the used slots are those of the chains: their number is a matter of M alone -/
theorem qv_S_cnt {M M' : Nat → List Nat} {a b : Nat → Int32} (hS : qv_S M a) (hS' : qv_S M' b) (h : ∀ j, M' j = M j) : qv_cnt b 24 = qv_cnt a 24 := by
  refine qv_cnt_ext 24 (fun v hv => ?_)
  constructor
  · intro e
    by_cases g : a v = 0
    · exact g
    · obtain ⟨j, hj⟩ := hS.2.2.2 v hv g
      rw [← h j] at hj
      exact absurd e (hS'.2.2.1 j v hj).2
  · intro e
    by_cases g : b v = 0
    · exact g
    · obtain ⟨j, hj⟩ := hS'.2.2.2 v hv g
      rw [h j] at hj
      exact absurd e (hS.2.2.1 j v hj).2
/-- with a free slot there is room for one more key -/
theorem qv_room {n : Nat} {K : Nat → Nat} {M : Nat → List Nat} {a1 a2 a3 a7 : Nat → Int32} (hA : qv_A n K a1) (hH : qv_H n K M a2 a7) (hS : qv_S M a3) {v : Nat} (hv : v < 24) (h0 : a3 v = 0) : n < 24 := by
  have hf := qv_fresh hS h0
  have hm : ∀ i, i < n → (M (K i)).headD 0 ∈ M (K i) := by
    intro i hi
    have := (hH.1 i hi).1
    cases e : M (K i) with
    | nil => exact absurd e this
    | cons w l => simp
  have := qv_phpF 24 (n + 1) (fun i => if i < n then (M (K i)).headD 0 else v) (by
    intro i hi
    show ((if i < n then (M (K i)).headD 0 else v) < 24)
    split
    · rename_i g
      exact (hS.2.2.1 _ _ (hm i g)).1
    · exact hv) (by
    intro i j hij hj
    show ¬ ((if i < n then (M (K i)).headD 0 else v) = (if j < n then (M (K j)).headD 0 else v))
    rw [if_pos (by omega)]
    split
    · rename_i g
      intro e
      have h1 := hm i (by omega)
      rw [e] at h1
      have := qv_inj hA (by omega) g (hS.2.1 _ _ _ h1 (hm j g))
      omega
    · intro e
      exact hf (K i) (e ▸ hm i (by omega)))
  omega
end
section
/-! the small methods -/
section
variable {ty bu ke ma th : Int32} {a1 a2 a3 a4 a5 a6 a7 a8 a9 a10 : Nat → Int32} {n k : Nat} {K : Nat → Nat} {M : Nat → List Nat}
theorem qv_unit {post : Int32 → Prop} {p : Nat} (hp : p < 4) (h : post (nI (7 ^ (3 - p)))) : wpX_unit post () (nI p) := by
  unfold wpX_unit
  have hc : p = 0 ∨ p = 1 ∨ p = 2 ∨ p = 3 := by omega
  rcases hc with rfl | rfl | rfl | rfl
  · exact br_f (by decide) (br_f (by decide) (br_t rfl h))
  · exact br_f (by decide) (br_f (by decide) (br_f (by decide) (br_t rfl h)))
  · exact br_f (by decide) (br_f (by decide) (br_f (by decide) (br_f (by decide) (br_t rfl h))))
  · exact br_f (by decide) (br_t (by decide) h)
theorem qv_rank (k : Nat) (K : Nat → Nat) : ∀ n, (∀ i j, i < j → j < n → K i < K j) → ∃ i, i ≤ n ∧ (∀ j, j < i → K j < k) ∧ (∀ j, i ≤ j → j < n → k ≤ K j) := by
  intro n
  induction n with
  | zero => intro _; exact ⟨0, by omega, fun j h => absurd h (by omega), fun j _ h => absurd h (by omega)⟩
  | succ n ih =>
    intro hm
    obtain ⟨i, h1, h2, h3⟩ := ih (fun i j hij hj => hm i j hij (by omega))
    by_cases g : i < n
    · refine ⟨i, by omega, h2, fun j hj hjn => ?_⟩
      by_cases e : j = n
      · have h4 := h3 i (by omega) g
        have h5 := hm i n g (by omega)
        rw [e]
        omega
      · exact h3 j hj (by omega)
    · by_cases e : K n < k
      · refine ⟨n + 1, by omega, fun j hj => ?_, fun j hj hjn => absurd hj (by omega)⟩
        by_cases e2 : j = n
        · rw [e2]
          exact e
        · exact h2 j (by omega)
      · refine ⟨n, by omega, fun j hj => h2 j (by omega), fun j hj hjn => ?_⟩
        have e2 : j = n := by omega
        rw [e2]
        omega
theorem qv_seek_7 {post : Int32 → Prop} {i : Nat} (hA : qv_A n K a1) (hk : k < 2 ^ 31) (hi : i ≤ n) (lo : ∀ j, j < i → K j < k) (up : ∀ j, i ≤ j → j < n → k ≤ K j) (h : post (nI i)) : ∀ f l u, l ≤ i → i ≤ u → u ≤ n → u - l < f → wX_seek_7 post (nI k) ty bu ke ma th a1 a2 a3 a4 a5 a6 a7 a8 a9 a10 f (nI l) (nI u) := by
  intro f
  induction f with
  | zero => intro l u _ _ _ h; omega
  | succ f ih =>
    intro l u h1 h2 h3 h4
    have hn := hA.1
    refine pk_le u l (fun z => ?_) (fun z => ⟨by decide, nm_r (e' := nI ((l + u) / 2)) ?_ ⟨pk_in ((l + u) / 2) 24 (by omega), ?_⟩⟩)
    · have e : l = i := by omega
      rw [e]
      exact h
    · rw [nI_add]
      exact pk_div (by omega) (by decide) (by decide)
    · have hmid : (l + u) / 2 < n := by omega
      have hb := (hA.2.1 _ hmid).2.2
      rw [nI_clamp (by omega), (hA.2.1 _ hmid).1]
      refine pk_le k (K ((l + u) / 2)) (fun g => ?_) (fun g => nm_r (nI_1 _) ?_)
      · refine ih l _ h1 ?_ (by omega) (by omega)
        rcases Nat.lt_or_ge ((l + u) / 2) i with z2 | z2
        · have := lo _ z2
          omega
        · exact z2
      · refine ih _ u ?_ h2 h3 (by omega)
        rcases Nat.lt_or_ge ((l + u) / 2) i with z2 | z2
        · exact z2
        · have := up _ z2 hmid
          omega
theorem qv_seek (hA : qv_A n K a1) (hk : k < 2 ^ 31) : ∃ i, i ≤ n ∧ (∀ j, j < i → K j < k) ∧ (∀ j, i ≤ j → j < n → k ≤ K j) ∧ ∀ (post : Int32 → Prop) (ty bu ma th : Int32) (a2 a3 a4 a5 a6 a7 a8 a9 a10 : Nat → Int32), post (nI i) → wpX_seek post (ty, bu, nI n, ma, th, a1, a2, a3, a4, a5, a6, a7, a8, a9, a10) (nI k) := by
  obtain ⟨i, h1, h2, h3⟩ := qv_rank k K n hA.2.2
  exact ⟨i, h1, h2, h3, fun post ty bu ma th a2 a3 a4 a5 a6 a7 a8 a9 a10 hp => ⟨n + 1, qv_seek_7 hA hk h1 h2 h3 hp (n + 1) 0 n (by omega) h1 (by omega) (by omega)⟩⟩
theorem qv_place_no {post : Int32 → Prop} (hA : qv_A n K a1) (hH : qv_H n K M a2 a7) (hk : k < 2 ^ 31) (e : M k = []) (hp : post (-1)) : wpX_placeOf post (ty, bu, nI n, ma, th, a1, a2, a3, a4, a5, a6, a7, a8, a9, a10) (nI k) := by
  obtain ⟨i, h1, h2, h3, h4⟩ := qv_seek hA hk
  unfold wpX_placeOf
  refine h4 _ _ _ _ _ _ _ _ _ _ _ _ _ _ ?_
  have hn := hA.1
  refine pk_le n i (fun z => hp) (fun z => ⟨pk_in i 24 (by omega), ?_⟩)
  have hb := (hA.2.1 i z).2.2
  rw [nI_clamp (by omega), (hA.2.1 i z).1]
  exact pk_eq (K i) k (fun z2 => absurd (by rw [z2]; exact e) (hH.1 i z).1) (fun _ => hp)
theorem qv_place_yes (hA : qv_A n K a1) (hH : qv_H n K M a2 a7) (hk : k < 2 ^ 31) (e : M k ≠ []) : ∃ p, p < n ∧ K p = k ∧ ∀ (post : Int32 → Prop) (ty bu ma th : Int32) (a2 a3 a4 a5 a6 a7 a8 a9 a10 : Nat → Int32), post (nI p) → wpX_placeOf post (ty, bu, nI n, ma, th, a1, a2, a3, a4, a5, a6, a7, a8, a9, a10) (nI k) := by
  obtain ⟨i, h1, h2, h3, h4⟩ := qv_seek hA hk
  obtain ⟨p, hp, e2⟩ := hH.2 k e
  have hn := hA.1
  have hip : i = p := by
    rcases Nat.lt_trichotomy i p with g | g | g
    · have h5 := h3 i (by omega) (by omega)
      have h6 := hA.2.2 i p g hp
      omega
    · exact g
    · have := h2 p g
      omega
  subst hip
  refine ⟨i, hp, e2, fun post ty bu ma th a2 a3 a4 a5 a6 a7 a8 a9 a10 hpost => ?_⟩
  unfold wpX_placeOf
  refine h4 _ _ _ _ _ _ _ _ _ _ _ _ _ _ ?_
  refine pk_le n i (fun z => absurd hp (by omega)) (fun z => ⟨pk_in i 24 (by omega), ?_⟩)
  have hb := (hA.2.1 i z).2.2
  rw [nI_clamp (by omega), (hA.2.1 i z).1]
  exact br_t (by rw [e2]) hpost
theorem qv_isP_no {post : Int32 → Prop} (hp : post 0) : wpX_isPresent post (ty, bu, ke, ma, th, a1, a2, a3, a4, a5, a6, a7, a8, a9, a10) (-1) := br_t (by decide) hp
theorem qv_isP {post : Int32 → Prop} {p v : Nat} (hp : p < 24) (hv : v < 24) (e : a2 p = nI v) (h1 : a6 v = 0 → post 1) (h0 : ¬ a6 v = 0 → post 0) : wpX_isPresent post (ty, bu, ke, ma, th, a1, a2, a3, a4, a5, a6, a7, a8, a9, a10) (nI p) := by
  refine br_f (nI_pos (by omega)) ⟨pk_in p 24 hp, ?_⟩
  rw [nI_clamp (by omega), e]
  refine ⟨pk_in v 24 hv, ?_⟩
  rw [nI_clamp (by omega)]
  exact br_c h1 h0
/-- is the key k there, its newest version no marker? -/
def qv_P (M : Nat → List Nat) (a6 : Nat → Int32) (k : Nat) : Bool := match M k with
  | [] => false
  | v :: _ => decide (a6 v = 0)
def qv_bi (b : Bool) : Int32 := if b then 1 else 0
def qv_gt (M : Nat → List Nat) (a5 a6 : Nat → Int32) (k : Nat) : Int32 := match M k with
  | [] => 0
  | v :: _ => if a6 v = 0 then a5 v else 0
theorem qv_P_nil {a : Nat → Int32} (e : M k = []) : qv_P M a k = false := by
  unfold qv_P
  rw [e]
theorem qv_P_cons {a : Nat → Int32} {v : Nat} {l : List Nat} (e : M k = v :: l) : qv_P M a k = decide (a v = 0) := by
  unfold qv_P
  rw [e]
theorem qv_present {post : Int32 → Prop} (hA : qv_A n K a1) (hH : qv_H n K M a2 a7) (hS : qv_S M a3) (hk : k < 2 ^ 31) (hp : post (qv_bi (qv_P M a6 k))) : wpX_present post (ty, nI k, nI n, ma, th, a1, a2, a3, a4, a5, a6, a7, a8, a9, a10) := by
  unfold wpX_present
  have hn := hA.1
  cases e : M k with
  | nil =>
    rw [qv_P_nil e] at hp
    exact qv_place_no hA hH hk e (qv_isP_no ⟨by decide, hp⟩)
  | cons v l =>
    rw [qv_P_cons e] at hp
    obtain ⟨p, h1, h2, h3⟩ := qv_place_yes hA hH hk (by rw [e]; simp)
    have h4 := (hH.1 p h1).2
    rw [h2, e] at h4
    refine h3 _ _ _ _ _ _ _ _ _ _ _ _ _ _ (qv_isP (v := v) (by omega) (hS.2.2.1 k v (by rw [e]; simp)).1 h4.1 (fun z => ⟨by decide, ?_⟩) (fun z => ⟨by decide, ?_⟩))
    · rw [decide_eq_true z] at hp
      exact hp
    · rw [decide_eq_false z] at hp
      exact hp
theorem qv_get {post : Int32 → Prop} (hA : qv_A n K a1) (hH : qv_H n K M a2 a7) (hS : qv_S M a3) (hk : k < 2 ^ 31) (hp : post (qv_gt M a5 a6 k)) : wpX_get post (ty, nI k, nI n, ma, th, a1, a2, a3, a4, a5, a6, a7, a8, a9, a10) := by
  unfold wpX_get
  unfold qv_gt at hp
  have hn := hA.1
  cases e : M k with
  | nil =>
    rw [e] at hp
    exact qv_place_no hA hH hk e (qv_isP_no (br_t rfl hp))
  | cons v l =>
    rw [e] at hp
    obtain ⟨p, h1, h2, h3⟩ := qv_place_yes hA hH hk (by rw [e]; simp)
    have h4 := (hH.1 p h1).2
    rw [h2, e] at h4
    have hv : v < 24 := (hS.2.2.1 k v (by rw [e]; simp)).1
    refine h3 _ _ _ _ _ _ _ _ _ _ _ _ _ _ (qv_isP (v := v) (by omega) hv h4.1 (fun z => br_f (by decide) ⟨pk_in p 24 (by omega), ?_⟩) (fun z => br_t rfl ?_))
    · rw [nI_clamp (by omega), h4.1]
      refine ⟨pk_in v 24 hv, ?_⟩
      rw [nI_clamp (by omega)]
      simp only [if_pos z] at hp
      exact hp
    · simp only [if_neg z] at hp
      exact hp
theorem qv_free (h : ∃ v, v < 24 ∧ a3 v = 0) : ∃ v, v < 24 ∧ a3 v = 0 ∧ ∀ (post : Int32 → Prop) (ty bu ke ma th : Int32) (a1 a2 a4 a5 a6 a7 a8 a9 a10 : Nat → Int32), post (nI v) → wpX_freeVersion post (ty, bu, ke, ma, th, a1, a2, a3, a4, a5, a6, a7, a8, a9, a10) := by
  obtain ⟨v, ⟨h1, h2⟩, h3⟩ := pk_least (fun v => v < 24 ∧ a3 v = 0) h
  refine ⟨v, h1, h2, fun post ty bu ke ma th a1 a2 a4 a5 a6 a7 a8 a9 a10 hp => ?_⟩
  exact pk_loop (σ := Unit) (fun f i _ => wX_freeVersion_2 post ty bu ke ma th a1 a2 a3 a4 a5 a6 a7 a8 a9 a10 f (nI i)) (fun _ _ => True) v 0 () (by omega) trivial
    (fun f _ _ => pk_le 23 v (fun _ => hp) (fun z => ⟨pk_in v 24 (by omega), br_t (by rw [nI_clamp (by omega)]; exact h2) hp⟩))
    (fun f i _ hi _ hw => pk_le 23 i (fun z => absurd z (by omega)) (fun z => ⟨pk_in i 24 (by omega), br_f (by rw [nI_clamp (by omega)]; exact fun e => h3 i hi ⟨by omega, e⟩) (nm_r (nI_1 i) (hw () trivial))⟩))
theorem qv_slot_no {post : Int32 → Prop} {x : Int32} (h : ∀ v, v < 24 → a3 v ≠ 0 → a4 v ≠ x) (hp : post (-1)) : wpX_slotOf post (ty, bu, ke, ma, th, a1, a2, a3, a4, a5, a6, a7, a8, a9, a10) x :=
  pk_loop (σ := Unit) (fun f i _ => wX_slotOf_2 post x ty bu ke ma th a1 a2 a3 a4 a5 a6 a7 a8 a9 a10 f (nI i)) (fun _ _ => True) 24 0 () (by omega) trivial
    (fun f _ _ => pk_le 24 24 (fun _ => hp) (fun z => absurd z (by omega)))
    (fun f i _ hi _ hw => pk_le 24 i (fun z => absurd z (by omega)) (fun z => ⟨pk_in i 24 (by omega), by
      rw [nI_clamp (by omega)]
      exact br_c (fun _ => nm_r (nI_1 i) (hw () trivial)) (fun g => ⟨pk_in i 24 (by omega), br_f (h i hi g) (nm_r (nI_1 i) (hw () trivial))⟩)⟩))
theorem qv_slot_yes {x : Int32} (h : ∃ v, v < 24 ∧ a3 v ≠ 0 ∧ a4 v = x) : ∃ v, v < 24 ∧ a3 v ≠ 0 ∧ a4 v = x ∧ ∀ (post : Int32 → Prop) (ty bu ke ma th : Int32) (a1 a2 a5 a6 a7 a8 a9 a10 : Nat → Int32), post (nI v) → wpX_slotOf post (ty, bu, ke, ma, th, a1, a2, a3, a4, a5, a6, a7, a8, a9, a10) x := by
  obtain ⟨v, ⟨h1, h2, h3⟩, h4⟩ := pk_least (fun v => v < 24 ∧ a3 v ≠ 0 ∧ a4 v = x) h
  refine ⟨v, h1, h2, h3, fun post ty bu ke ma th a1 a2 a5 a6 a7 a8 a9 a10 hp => ?_⟩
  exact pk_loop (σ := Unit) (fun f i _ => wX_slotOf_2 post x ty bu ke ma th a1 a2 a3 a4 a5 a6 a7 a8 a9 a10 f (nI i)) (fun _ _ => True) v 0 () (by omega) trivial
    (fun f _ _ => pk_le 24 v (fun z => absurd z (by omega)) (fun z => ⟨pk_in v 24 (by omega), by
      rw [nI_clamp (by omega)]
      exact br_f h2 ⟨pk_in v 24 (by omega), br_t h3 hp⟩⟩))
    (fun f i _ hi _ hw => pk_le 24 i (fun z => absurd z (by omega)) (fun z => ⟨pk_in i 24 (by omega), by
      rw [nI_clamp (by omega)]
      exact br_c (fun _ => nm_r (nI_1 i) (hw () trivial)) (fun g => ⟨pk_in i 24 (by omega), br_f (fun e => h4 i hi ⟨by omega, g, e⟩) (nm_r (nI_1 i) (hw () trivial))⟩)⟩))
/-- a known version's slot -/
theorem qv_slot {post : Int32 → Prop} {m v : Nat} (hS : qv_S M a3) (hN : qv_N M a4 m) (hv : v ∈ M k) (hp : post (nI v)) : wpX_slotOf post (ty, bu, ke, ma, th, a1, a2, a3, a4, a5, a6, a7, a8, a9, a10) (a4 v) := by
  have h1 := hS.2.2.1 k v hv
  obtain ⟨w, g1, g2, g3, g4⟩ := qv_slot_yes (a3 := a3) (a4 := a4) (x := a4 v) ⟨v, h1.1, h1.2, rfl⟩
  obtain ⟨j, hj⟩ := hS.2.2.2 w g1 g2
  have e : w = v := hN.2 j k w v hj hv g3
  subst e
  exact g4 _ _ _ _ _ _ _ _ _ _ _ _ _ _ hp
def qv_bs (x : Int32) : Nat → Int32
  | 0 => 0
  | i + 1 => qv_bs x i + ((x >>> (nI i &&& 31)) &&& 1)
theorem qv_bits {post : Int32 → Prop} {x : Int32} (hp : post (qv_bs x 8)) : wpX_bits post () x :=
  pk_loop (σ := Unit) (fun f i _ => wX_bits_4 post x f (qv_bs x i) (nI i)) (fun _ _ => True) 8 0 () (by omega) trivial
    (fun f _ _ => pk_le 8 8 (fun _ => hp) (fun z => absurd z (by omega)))
    (fun f i _ hi _ hw => pk_le 8 i (fun z => absurd z (by omega)) (fun z => nm_e (nm_r (nI_1 i) (hw () trivial))))
theorem qv_noUp {post : Int32 → Prop} {x : Int32} (h0 : ∀ u, u < 3 → x = nI u → a8 u ≠ 0 → post 0) (h1 : (¬ ∃ u, u < 3 ∧ x = nI u ∧ a8 u ≠ 0) → post 1) : wpX_noUpload post (ty, bu, ke, ma, th, a1, a2, a3, a4, a5, a6, a7, a8, a9, a10) x := by
  unfold wpX_noUpload
  by_cases hx : ∃ u, u < 3 ∧ x = nI u
  · obtain ⟨u, hu, e⟩ := hx
    subst e
    refine br_f (nI_pos (by omega)) (pk_lt 2 u (fun z => absurd z (by omega)) (fun z => ⟨pk_in u 3 hu, ?_⟩))
    rw [nI_clamp (by omega)]
    refine br_c (fun g => h1 ?_) (fun g => h0 u hu rfl g)
    rintro ⟨w, hw, e, g2⟩
    rw [nI_eq (by omega) (by omega)] at e
    rw [e] at g
    exact g2 g
  · have h2 : post 1 := h1 (fun ⟨u, hu, e, _⟩ => hx ⟨u, hu, e⟩)
    refine br_c (fun _ => h2) (fun g => br_c (fun _ => h2) (fun g2 => absurd ?_ hx))
    rcases pk_ix x (n := 3) (by decide) with z | z | z
    · exact absurd z g
    · exact absurd (Int32.lt_of_lt_of_le (by decide : (2 : Int32) < nI 3) z) g2
    · exact z
end
end
section
/-! addVersion -/
section
variable {ty bu ke ma th : Int32} {a1 a2 a3 a4 a5 a6 a7 a8 a9 a10 : Nat → Int32} {n k m : Nat} {K : Nat → Nat} {M : Nat → List Nat}
theorem qv_av182 {post : Int32 → St1 → Prop} {v p : Nat} (hv : v < 24) (hp : p < 24) (h : post (a4 v) (ty, bu, ke, ma, th, a1, upd a2 p (nI v), a3, a4, a5, a6, a7, a8, a9, a10)) : wX_addVersion_182 post (nI v) (nI p) ty bu ke ma th a1 a2 a3 a4 a5 a6 a7 a8 a9 a10 := by
  unfold wX_addVersion_182
  rw [nI_clamp (show v < 2 ^ 31 by omega), nI_clamp (show p < 2 ^ 31 by omega)]
  exact ⟨pk_in p 24 hp, nm_e ⟨pk_in v 24 hv, h⟩⟩
theorem qv_av111 {post : Int32 → St1 → Prop} {v p : Nat} (hv : v < 24) (hn : n < 24) (hp : p ≤ n) (h : post (a4 v) (ty, bu, nI (n + 1), ma, th, upd (qv_shr a1 p n) p (nI k), upd (qv_shr a2 p n) p (nI v), a3, a4, a5, a6, upd a7 v (-1), a8, a9, a10)) : ∀ d i, i = p + d → i ≤ n → wX_addVersion_111 post (nI k) (nI v) (nI p) ty bu (nI n) ma th (d + 1) (nI i) (qv_shr a1 i n) (qv_shr a2 i n) a3 a4 a5 a6 a7 a8 a9 a10 := by
  intro d
  induction d with
  | zero =>
    intro i hi hin
    have e : i = p := by omega
    subst e
    refine pk_le i i (fun _ => ?_) (fun z => absurd z (by omega))
    rw [nI_clamp (show v < 2 ^ 31 by omega), nI_clamp (show i < 2 ^ 31 by omega)]
    exact ⟨pk_in i 24 (by omega), nm_e (nm_r (nI_1 n) ⟨pk_in v 24 hv, nm_e (qv_av182 hv (by omega) h)⟩)⟩
  | succ d ih =>
    intro i hi hin
    obtain ⟨j, e⟩ : ∃ j, i = j + 1 := ⟨i - 1, by omega⟩
    subst e
    refine pk_le (j + 1) p (fun z => absurd z (by omega)) (fun _ => ?_)
    rw [nI_pred, nI_clamp (show j < 2 ^ 31 by omega), nI_clamp (show j + 1 < 2 ^ 31 by omega)]
    exact ⟨pk_in j 24 (by omega), pk_in (j + 1) 24 (by omega), nm_r (qv_shrS a1 hin) ⟨pk_in j 24 (by omega), pk_in (j + 1) 24 (by omega), nm_r (qv_shrS a2 hin) (nm_r (pk_m1 j) (ih j (by omega) (by omega)))⟩⟩
theorem qv_addVersion (hA : qv_A n K a1) (hH : qv_H n K M a2 a7) (hS : qv_S M a3) (hk : 0 < k) (hk2 : k < 2401) (hc : qv_cnt a3 24 < 24) :
    ∃ (v n' : Nat) (K' : Nat → Nat) (a1' a2' a7' : Nat → Int32), v < 24 ∧ a3 v = 0 ∧ qv_A n' K' a1' ∧ qv_H n' K' (qv_add M k v) a2' a7' ∧
      ∀ (post : Int32 → St1 → Prop) (ty bu p1 p2 : Int32) (a4 a5 a6 a8 a9 a10 : Nat → Int32),
        post (nI m) (ty, bu, nI n', nI (m + 1), nI (qv_cnt (upd a3 v 1) 24), a1', a2', upd a3 v 1, upd a4 v (nI m), upd a5 v p1, upd a6 v (vp_nar .boolean p2), a7', a8, a9, a10) →
        wpX_addVersion post (ty, bu, nI n, nI m, nI (qv_cnt a3 24), a1, a2, a3, a4, a5, a6, a7, a8, a9, a10) (nI k) p1 p2 := by
  obtain ⟨v, hv, h0, hf⟩ := qv_free (qv_cnt_free a3 24 hc)
  have hfr := qv_fresh hS h0
  have hn := qv_room hA hH hS hv h0
  obtain ⟨i, h1, h2, h3, hs⟩ := qv_seek (k := k) hA (by omega)
  have hcs := qv_cnt_set h0 (show (1 : Int32) ≠ 0 by decide) 24 hv
  by_cases hx : i < n ∧ K i = k
  · obtain ⟨hin, e⟩ := hx
    subst e
    refine ⟨v, n, K, a1, upd a2 i (nI v), upd a7 v (a2 i), hv, h0, hA, qv_H_push hA hH hin hfr, ?_⟩
    intro post ty bu p1 p2 a4 a5 a6 a8 a9 a10 hp
    unfold wpX_addVersion
    refine hf _ _ _ _ _ _ _ _ _ _ _ _ _ _ _ ⟨pk_in v 24 hv, ?_⟩
    rw [nI_clamp (show v < 2 ^ 31 by omega)]
    refine nm_e ⟨pk_in v 24 hv, nm_e ⟨pk_in v 24 hv, nm_e ⟨pk_in v 24 hv, nm_e (nm_r (nI_1 m) (nm_r (nI_1 _) ?_))⟩⟩⟩
    refine hs _ _ _ _ _ _ _ _ _ _ _ _ _ _ ?_
    refine pk_le n i (fun z => absurd z (by omega)) (fun _ => ⟨pk_in i 24 (by omega), ?_⟩)
    rw [nI_clamp (show i < 2 ^ 31 by omega)]
    refine br_t (hA.2.1 i hin).1 ⟨pk_in i 24 (by omega), pk_in v 24 hv, nm_e (qv_av182 hv (by omega) ?_)⟩
    rw [pk_us]
    rw [hcs] at hp
    exact hp
  · have hMk : M k = [] := by
      cases e : M k with
      | nil => rfl
      | cons w l =>
        obtain ⟨q, hq, e2⟩ := hH.2 k (by rw [e]; simp)
        rcases Nat.lt_trichotomy i q with g | g | g
        · have h5 := h3 i (by omega) (by omega)
          have h6 := hA.2.2 i q g hq
          omega
        · subst g
          exact absurd ⟨hq, e2⟩ hx
        · have := h2 q g
          omega
    have hup : ∀ j, i ≤ j → j < n → k < K j := by
      intro j hj hjn
      have h5 := h3 j hj hjn
      have h6 : K j ≠ k := fun e => (hH.1 j hjn).1 (by rw [e]; exact hMk)
      omega
    refine ⟨v, n + 1, qv_kin K i k, upd (qv_shr a1 i n) i (nI k), upd (qv_shr a2 i n) i (nI v), upd a7 v (-1), hv, h0, qv_A_ins hA hn h1 hk hk2 h2 hup, qv_H_ins hH h1 hMk hfr, ?_⟩
    intro post ty bu p1 p2 a4 a5 a6 a8 a9 a10 hp
    have hloop : ∃ f, wX_addVersion_111 post (nI k) (nI v) (nI i) ty bu (nI n) (nI (m + 1)) (nI (qv_cnt a3 24 + 1)) f (nI n) a1 a2 (upd a3 v 1) (upd a4 v (nI m)) (upd a5 v p1) (upd a6 v (vp_nar .boolean p2)) a7 a8 a9 a10 := by
      rw [hcs] at hp
      have hq := qv_av111 (post := post) (k := k) (ty := ty) (bu := bu) (ma := nI (m + 1)) (th := nI (qv_cnt a3 24 + 1)) (a1 := a1) (a2 := a2) (a3 := upd a3 v 1) (a4 := upd a4 v (nI m)) (a5 := upd a5 v p1) (a6 := upd a6 v (vp_nar .boolean p2)) (a7 := a7) (a8 := a8) (a9 := a9) (a10 := a10) hv hn h1 (by rw [pk_us]; exact hp) (n - i) n (by omega) (by omega)
      rw [qv_shr0, qv_shr0] at hq
      exact ⟨_, hq⟩
    unfold wpX_addVersion
    refine hf _ _ _ _ _ _ _ _ _ _ _ _ _ _ _ ⟨pk_in v 24 hv, ?_⟩
    rw [nI_clamp (show v < 2 ^ 31 by omega)]
    refine nm_e ⟨pk_in v 24 hv, nm_e ⟨pk_in v 24 hv, nm_e ⟨pk_in v 24 hv, nm_e (nm_r (nI_1 m) (nm_r (nI_1 _) ?_))⟩⟩⟩
    refine hs _ _ _ _ _ _ _ _ _ _ _ _ _ _ ?_
    refine pk_le n i (fun z => hloop) (fun z => ⟨pk_in i 24 (by omega), ?_⟩)
    rw [nI_clamp (show i < 2 ^ 31 by omega), (hA.2.1 i z).1]
    have hb := (hA.2.1 i z).2.2
    exact pk_eq (K i) k (fun g => absurd ⟨z, g⟩ hx) (fun _ => hloop)
end
end
section
/-! dropKey, unchain, cutChain -/
section
variable {ty bu ke ma th : Int32} {a1 a2 a3 a4 a5 a6 a7 a8 a9 a10 : Nat → Int32} {n k m : Nat} {K : Nat → Nat} {M : Nat → List Nat}
theorem qv_dropKey {post : St1 → Prop} {p : Nat} (hp : p < n) (hn : n ≤ 24) (h : post (ty, bu, nI (n - 1), ma, th, qv_shl a1 p (n - 1), qv_shl a2 p (n - 1), a3, a4, a5, a6, a7, a8, a9, a10)) : wpX_dropKey post (ty, bu, nI n, ma, th, a1, a2, a3, a4, a5, a6, a7, a8, a9, a10) (nI p) := by
  unfold wpX_dropKey
  refine nm_r (e' := nI (n - 1)) (by
    obtain ⟨c, e⟩ : ∃ c, n = c + 1 := ⟨n - 1, by omega⟩
    subst e
    exact nI_pred c) ?_
  have hq := pk_loop (σ := Unit) (fun f i _ => wX_dropKey_12 post ty bu (nI (n - 1)) ma th f (nI i) (qv_shl a1 p i) (qv_shl a2 p i) a3 a4 a5 a6 a7 a8 a9 a10) (fun i _ => p ≤ i) (n - 1) p () (by omega) (by omega)
    (fun f _ _ => pk_le (n - 1) (n - 1) (fun _ => h) (fun z => absurd z (by omega)))
    (fun f i _ hi hpi hw => pk_le (n - 1) i (fun z => absurd z (by omega)) (fun _ => by
      rw [nI_1 i, nI_clamp (show i < 2 ^ 31 by omega), nI_clamp (show i + 1 < 2 ^ 31 by omega)]
      exact ⟨pk_in (i + 1) 24 (by omega), pk_in i 24 (by omega), nm_r (qv_shlS a1 hpi) ⟨pk_in (i + 1) 24 (by omega), pk_in i 24 (by omega), nm_r (qv_shlS a2 hpi) (nm_e (hw () (by omega)))⟩⟩))
  rw [qv_shl0, qv_shl0] at hq
  exact hq
theorem qv_th {v : Nat} (hv : v < 24) (h : a3 v ≠ 0) : nI (qv_cnt a3 24) - 1 = nI (qv_cnt (upd a3 v 0) 24) := by
  rw [← qv_cnt_clr h 24 hv, nI_pred]
theorem qv_un88_keep {post : Int32 → St1 → Prop} {p v w : Nat} (hp : p < 24) (hv : v < 24) (h0 : a3 v ≠ 0) (hw : w < 24) (e : a2 p = nI w) (h : post 1 (ty, bu, ke, ma, nI (qv_cnt (upd a3 v 0) 24), a1, a2, upd a3 v 0, a4, a5, a6, a7, a8, a9, a10)) : wX_unchain_88 post (nI p) (nI v) ty bu ke ma (nI (qv_cnt a3 24)) a1 a2 a3 a4 a5 a6 a7 a8 a9 a10 := by
  unfold wX_unchain_88
  rw [nI_clamp (show p < 2 ^ 31 by omega), nI_clamp (show v < 2 ^ 31 by omega), e]
  exact ⟨pk_in v 24 hv, nm_e (nm_r (qv_th hv h0) ⟨pk_in p 24 hp, br_t (nI_pos' (by omega)) h⟩)⟩
theorem qv_un88_drop {post : Int32 → St1 → Prop} {p v : Nat} (hp : p < n) (hn : n ≤ 24) (hv : v < 24) (h0 : a3 v ≠ 0) (e : a2 p = -1) (h : post 1 (ty, bu, nI (n - 1), ma, nI (qv_cnt (upd a3 v 0) 24), qv_shl a1 p (n - 1), qv_shl a2 p (n - 1), upd a3 v 0, a4, a5, a6, a7, a8, a9, a10)) : wX_unchain_88 post (nI p) (nI v) ty bu (nI n) ma (nI (qv_cnt a3 24)) a1 a2 a3 a4 a5 a6 a7 a8 a9 a10 := by
  unfold wX_unchain_88
  rw [nI_clamp (show p < 2 ^ 31 by omega), nI_clamp (show v < 2 ^ 31 by omega), e]
  exact ⟨pk_in v 24 hv, nm_e (nm_r (qv_th hv h0) ⟨pk_in p 24 (by omega), br_f (by decide) (qv_dropKey hp hn h)⟩)⟩
theorem qv_un49_no {post : Int32 → St1 → Prop} {p v : Nat} {x3 : Int32} (hv : v < 24) (h : post 0 (ty, bu, ke, ma, th, a1, a2, a3, a4, a5, a6, a7, a8, a9, a10)) : wX_unchain_49 post (nI p) (nI v) x3 (-1) ty bu ke ma th a1 a2 a3 a4 a5 a6 a7 a8 a9 a10 := by
  unfold wX_unchain_49
  exact br_f (fun e => nI_pos (n := v) (by omega) (by rw [← e]; decide)) h
theorem qv_un13_no {post : Int32 → St1 → Prop} {p v : Nat} (hv : v < 24) (h : post 0 (ty, bu, ke, ma, th, a1, a2, a3, a4, a5, a6, a7, a8, a9, a10)) : ∀ (l : List Nat) (x3 x4 : Int32) (c f : Nat), qv_ch a7 l x4 → v ∉ l → (∀ w, w ∈ l → w < 24) → c + l.length ≤ 24 → l.length < f → wX_unchain_13 post (nI p) (nI v) ty bu ke ma th a1 a2 a3 a4 a5 a6 a7 a8 a9 a10 f x3 x4 (nI c) := by
  intro l
  induction l with
  | nil =>
    intro x3 x4 c f hc _ _ h4 h5
    obtain ⟨g, e⟩ : ∃ g, f = g + 1 := ⟨f - 1, by simp at h5; omega⟩
    subst e
    have hx : x4 = -1 := hc
    subst hx
    simp at h4
    exact pk_le 24 c (fun _ => qv_un49_no hv h) (fun _ => br_t (by decide) (qv_un49_no hv h))
  | cons w l ih =>
    intro x3 x4 c f hc h2 h3 h4 h5
    obtain ⟨g, e⟩ : ∃ g, f = g + 1 := ⟨f - 1, by simp at h5; omega⟩
    subst e
    obtain ⟨hx, hc2⟩ := hc
    subst hx
    simp only [List.length_cons] at h4 h5
    have hw := h3 w (by simp)
    have hne : w ≠ v := fun z => h2 (by rw [z]; simp)
    refine pk_le 24 c (fun z => absurd z (by omega)) (fun _ => br_f (nI_pos (by omega)) (pk_eq w v (fun z => absurd z hne) (fun _ => ⟨pk_in w 24 hw, ?_⟩)))
    rw [nI_clamp (show w < 2 ^ 31 by omega)]
    exact nm_e (nm_r (nI_1 c) (ih _ _ (c + 1) g hc2 (fun z => h2 (List.mem_cons_of_mem _ z)) (fun u hu => h3 u (List.mem_cons_of_mem _ hu)) (by omega) (by omega)))
def qv_last (x : Int32) : List Nat → Int32
  | [] => x
  | w :: l => qv_last (nI w) l
theorem qv_last_app (w : Nat) : ∀ (l : List Nat) (x : Int32), qv_last x (l ++ [w]) = nI w
  | [], _ => rfl
  | u :: l, _ => qv_last_app w l (nI u)
theorem qv_un13_yes {post : Int32 → St1 → Prop} {p v : Nat} {r : List Nat} (hv : v < 24) : ∀ (l : List Nat) (x3 x4 : Int32) (c f : Nat), qv_ch a7 (l ++ v :: r) x4 → v ∉ l → (∀ w, w ∈ l → w < 24) → c + l.length < 24 → l.length < f → wX_unchain_49 post (nI p) (nI v) (qv_last x3 l) (nI v) ty bu ke ma th a1 a2 a3 a4 a5 a6 a7 a8 a9 a10 → wX_unchain_13 post (nI p) (nI v) ty bu ke ma th a1 a2 a3 a4 a5 a6 a7 a8 a9 a10 f x3 x4 (nI c) := by
  intro l
  induction l with
  | nil =>
    intro x3 x4 c f hc _ _ h4 h5 h
    obtain ⟨g, e⟩ : ∃ g, f = g + 1 := ⟨f - 1, by simp at h5; omega⟩
    subst e
    have hx : x4 = nI v := hc.1
    subst hx
    simp at h4
    exact pk_le 24 c (fun z => absurd z (by omega)) (fun _ => br_f (nI_pos (by omega)) (br_t rfl h))
  | cons w l ih =>
    intro x3 x4 c f hc h2 h3 h4 h5 h
    obtain ⟨g, e⟩ : ∃ g, f = g + 1 := ⟨f - 1, by simp at h5; omega⟩
    subst e
    obtain ⟨hx, hc2⟩ := hc
    subst hx
    simp only [List.length_cons] at h4 h5
    have hw := h3 w (by simp)
    have hne : w ≠ v := fun z => h2 (by rw [z]; simp)
    refine pk_le 24 c (fun z => absurd z (by omega)) (fun _ => br_f (nI_pos (by omega)) (pk_eq w v (fun z => absurd z hne) (fun _ => ⟨pk_in w 24 hw, ?_⟩)))
    rw [nI_clamp (show w < 2 ^ 31 by omega)]
    exact nm_e (nm_r (nI_1 c) (ih _ _ (c + 1) g hc2 (fun z => h2 (List.mem_cons_of_mem _ z)) (fun u hu => h3 u (List.mem_cons_of_mem _ hu)) (by omega) (by omega) h))
theorem qv_len {a : Nat → Int32} (hS : qv_S M a) (k : Nat) : (M k).length ≤ 24 := qv_php (hS.1 k) (fun v hv => (hS.2.2.1 k v hv).1)
theorem qv_unchain_no {post : Int32 → St1 → Prop} {p v : Nat} (hA : qv_A n K a1) (hH : qv_H n K M a2 a7) (hS : qv_S M a3) (hp : p < n) (hv : v < 24) (hm : v ∉ M (K p)) (h : post 0 (ty, bu, nI n, ma, th, a1, a2, a3, a4, a5, a6, a7, a8, a9, a10)) : wpX_unchain post (ty, bu, nI n, ma, th, a1, a2, a3, a4, a5, a6, a7, a8, a9, a10) (nI p) (nI v) := by
  unfold wpX_unchain
  have hn := hA.1
  rw [nI_clamp (show p < 2 ^ 31 by omega)]
  have hl := qv_len hS (K p)
  exact ⟨pk_in p 24 (by omega), nm_e ⟨25, qv_un13_no hv h (M (K p)) _ _ 0 25 (hH.1 p hp).2 hm (fun w hw => (hS.2.2.1 _ w hw).1) (by omega) (by omega)⟩⟩
theorem qv_unchain_yes {p v : Nat} (hA : qv_A n K a1) (hH : qv_H n K M a2 a7) (hS : qv_S M a3) (hp : p < n) (hm : v ∈ M (K p)) :
    ∃ (n' : Nat) (K' : Nat → Nat) (a1' a2' a7' : Nat → Int32), qv_A n' K' a1' ∧ qv_H n' K' (qv_del M v) a2' a7' ∧ p ≤ n' ∧ (∀ i, i < p → K' i = K i) ∧
      ∀ (post : Int32 → St1 → Prop) (ty bu ma : Int32) (a4 a5 a6 a8 a9 a10 : Nat → Int32),
        post 1 (ty, bu, nI n', ma, nI (qv_cnt (upd a3 v 0) 24), a1', a2', upd a3 v 0, a4, a5, a6, a7', a8, a9, a10) →
        wpX_unchain post (ty, bu, nI n, ma, nI (qv_cnt a3 24), a1, a2, a3, a4, a5, a6, a7, a8, a9, a10) (nI p) (nI v) := by
  have hn := hA.1
  have hvv := hS.2.2.1 _ v hm
  have hl := qv_len hS (K p)
  have hch := (hH.1 p hp).2
  obtain ⟨l, r, e, hvl⟩ := List.eq_append_cons_of_mem hm
  have hlt : ∀ w, w ∈ l → w < 24 := fun w hw => (hS.2.2.1 (K p) w (by rw [e]; simp [hw])).1
  have hll : l.length < 24 := by
    rw [e] at hl
    simp at hl
    omega
  rw [e] at hch
  rcases List.eq_nil_or_concat l with g | ⟨l', w, g⟩
  · subst g
    have hd := hch.2
    cases r with
    | nil =>
      have hd2 : a7 v = -1 := hd
      refine ⟨n - 1, qv_kdr K p, qv_shl a1 p (n - 1), qv_shl (upd a2 p (a7 v)) p (n - 1), a7, qv_A_drop hA hp, qv_H_drop hA hH hS hp e, by omega, fun i hi => qv_kdr1 hi, ?_⟩
      intro post ty bu ma a4 a5 a6 a8 a9 a10 h
      unfold wpX_unchain
      rw [nI_clamp (show p < 2 ^ 31 by omega)]
      refine ⟨pk_in p 24 (by omega), nm_e ⟨25, qv_un13_yes hvv.1 [] _ _ 0 25 hch hvl hlt (by simpa using hll) (by simp) ?_⟩⟩
      unfold wX_unchain_49
      refine br_t rfl (br_t (by decide) ⟨pk_in v 24 hvv.1, pk_in p 24 (by omega), ?_⟩)
      rw [nI_clamp (show p < 2 ^ 31 by omega), nI_clamp (show v < 2 ^ 31 by omega)]
      exact nm_e (qv_un88_drop hp hn hvv.1 hvv.2 (by rw [pk_us]; exact hd2) h)
    | cons w r =>
      have hw : w < 24 := (hS.2.2.1 (K p) w (by rw [e]; simp)).1
      refine ⟨n, K, a1, upd a2 p (a7 v), a7, hA, qv_H_pop hA hH hS hp e, by omega, fun i hi => rfl, ?_⟩
      intro post ty bu ma a4 a5 a6 a8 a9 a10 h
      unfold wpX_unchain
      rw [nI_clamp (show p < 2 ^ 31 by omega)]
      refine ⟨pk_in p 24 (by omega), nm_e ⟨25, qv_un13_yes hvv.1 [] _ _ 0 25 hch hvl hlt (by simpa using hll) (by simp) ?_⟩⟩
      unfold wX_unchain_49
      refine br_t rfl (br_t (by decide) ⟨pk_in v 24 hvv.1, pk_in p 24 (by omega), ?_⟩)
      rw [nI_clamp (show p < 2 ^ 31 by omega), nI_clamp (show v < 2 ^ 31 by omega)]
      exact nm_e (qv_un88_keep (w := w) (by omega) hvv.1 hvv.2 hw (by rw [pk_us]; exact hd.1) h)
  · have g' : l = l' ++ [w] := by rw [g]; simp
    have hw : w < 24 := hlt w (by rw [g']; simp)
    have e2 : M (K p) = l' ++ w :: v :: r := by rw [e, g']; simp
    have ha2 : ∃ u, u < 24 ∧ a2 p = nI u := by
      have h9 := (hH.1 p hp).2
      cases e3 : M (K p) with
      | nil => exact absurd e3 (hH.1 p hp).1
      | cons u q =>
        rw [e3] at h9
        exact ⟨u, (hS.2.2.1 (K p) u (by rw [e3]; simp)).1, h9.1⟩
    obtain ⟨u, hu, eu⟩ := ha2
    refine ⟨n, K, a1, a2, upd a7 w (a7 v), hA, qv_H_skip hA hH hS hp e2, by omega, fun i hi => rfl, ?_⟩
    intro post ty bu ma a4 a5 a6 a8 a9 a10 h
    unfold wpX_unchain
    rw [nI_clamp (show p < 2 ^ 31 by omega)]
    refine ⟨pk_in p 24 (by omega), nm_e ⟨25, qv_un13_yes hvv.1 l _ _ 0 25 hch hvl hlt (by simpa using hll) (by omega) ?_⟩⟩
    rw [g', qv_last_app]
    unfold wX_unchain_49
    refine br_t rfl (br_f (nI_pos (by omega)) ⟨pk_in v 24 hvv.1, pk_in w 24 hw, ?_⟩)
    rw [nI_clamp (show w < 2 ^ 31 by omega), nI_clamp (show v < 2 ^ 31 by omega)]
    exact nm_e (qv_un88_keep (w := u) (by omega) hvv.1 hvv.2 hu eu h)
theorem qv_cc10 {post : Int32 → St1 → Prop} {s : Nat} (hs : s < 2 ^ 31) : ∀ (l : List Nat) (x3 : Int32) (c f : Nat), qv_ch a7 l x3 → (∀ w, w ∈ l → w < 24) → c ≤ s → l.length < f → (∀ x, qv_ch a7 (l.drop (s - c)) x → wX_cutChain_33 post x ty bu ke ma th a1 a2 a3 a4 a5 a6 a7 a8 a9 a10) → wX_cutChain_10 post (nI s) ty bu ke ma th a1 a2 a3 a4 a5 a6 a7 a8 a9 a10 f x3 (nI c) := by
  intro l
  induction l with
  | nil =>
    intro x3 c f hc _ h3 h4 h
    obtain ⟨g, e⟩ : ∃ g, f = g + 1 := ⟨f - 1, by simp at h4; omega⟩
    subst e
    have h9 := h x3 (by rw [List.drop_nil]; exact hc)
    have hx : x3 = -1 := hc
    subst hx
    exact pk_le s c (fun _ => h9) (fun _ => br_t (by decide) h9)
  | cons w l ih =>
    intro x3 c f hc h2 h3 h4 h
    obtain ⟨g, e⟩ : ∃ g, f = g + 1 := ⟨f - 1, by simp at h4; omega⟩
    subst e
    simp only [List.length_cons] at h4
    have hw := h2 w (by simp)
    refine pk_le s c (fun z => h x3 ?_) (fun z => ?_)
    · rw [show s - c = 0 by omega]
      exact hc
    · obtain ⟨hx, hc2⟩ := hc
      subst hx
      refine br_f (nI_pos (by omega)) ⟨pk_in w 24 hw, ?_⟩
      rw [nI_clamp (show w < 2 ^ 31 by omega)]
      refine nm_e (nm_r (nI_1 c) (ih _ (c + 1) g hc2 (fun u hu => h2 u (List.mem_cons_of_mem _ hu)) (by omega) (by omega) (fun x hx => h x ?_)))
      rw [show s - c = (s - (c + 1)) + 1 by omega]
      exact hx
theorem qv_cc60 {post : Int32 → St1 → Prop} : ∀ (q : List Nat) (x5 : Int32) (a3 : Nat → Int32) (g c f : Nat), qv_ch a7 q x5 → (∀ w, w ∈ q → w < 24 ∧ a3 w ≠ 0) → q.Nodup → c + q.length ≤ 24 → q.length < f → post (nI (g + q.length)) (ty, bu, ke, ma, nI (qv_cnt (qv_clr a3 q) 24), a1, a2, qv_clr a3 q, a4, a5, a6, a7, a8, a9, a10) → wX_cutChain_60 post ty bu ke ma f (nI g) x5 (nI c) (nI (qv_cnt a3 24)) a1 a2 a3 a4 a5 a6 a7 a8 a9 a10 := by
  intro q
  induction q with
  | nil =>
    intro x5 a3 g c f hc _ _ h4 h5 h
    obtain ⟨f', e⟩ : ∃ g, f = g + 1 := ⟨f - 1, by simp at h5; omega⟩
    subst e
    have hx : x5 = -1 := hc
    subst hx
    simp at h4
    exact pk_le 24 c (fun _ => h) (fun _ => br_t (by decide) h)
  | cons w q ih =>
    intro x5 a3 g c f hc h2 h3 h4 h5 h
    obtain ⟨f', e⟩ : ∃ g, f = g + 1 := ⟨f - 1, by simp at h5; omega⟩
    subst e
    obtain ⟨hx, hc2⟩ := hc
    subst hx
    simp only [List.length_cons] at h4 h5 h
    have hw := h2 w (by simp)
    have hnd := List.nodup_cons.mp h3
    refine pk_le 24 c (fun z => absurd z (by omega)) (fun _ => br_f (nI_pos (by omega)) ⟨pk_in w 24 hw.1, ?_⟩)
    rw [nI_clamp (show w < 2 ^ 31 by omega)]
    refine nm_e (nm_r (qv_th hw.1 hw.2) (nm_r (nI_1 g) ⟨pk_in w 24 hw.1, nm_e (nm_r (nI_1 c) (ih _ _ (g + 1) (c + 1) f' hc2 ?_ hnd.2 (by omega) (by omega) ?_))⟩))
    · intro u hu
      rw [pk_un (fun (z : u = w) => hnd.1 (by rw [← z]; exact hu))]
      exact h2 u (List.mem_cons_of_mem _ hu)
    · rw [show g + 1 + q.length = g + (q.length + 1) by omega]
      exact h
theorem qv_cutChain {p s : Nat} (hA : qv_A n K a1) (hH : qv_H n K M a2 a7) (hS : qv_S M a3) (hp : p < n) (hs1 : 1 ≤ s) (hs : s < 2 ^ 31) :
    ∃ (a3' a7' : Nat → Int32) (g : Nat), qv_H n K (qv_cut M (K p) s) a2 a7' ∧ qv_S (qv_cut M (K p) s) a3' ∧ g + qv_cnt a3' 24 = qv_cnt a3 24 ∧
      ∀ (post : Int32 → St1 → Prop) (ty bu ma : Int32) (a4 a5 a6 a8 a9 a10 : Nat → Int32),
        post (nI g) (ty, bu, nI n, ma, nI (qv_cnt a3' 24), a1, a2, a3', a4, a5, a6, a7', a8, a9, a10) →
        wpX_cutChain post (ty, bu, nI n, ma, nI (qv_cnt a3 24), a1, a2, a3, a4, a5, a6, a7, a8, a9, a10) (nI p) (nI s) := by
  have hn := hA.1
  have hl := qv_len hS (K p)
  have hch := (hH.1 p hp).2
  have hlt : ∀ w, w ∈ M (K p) → w < 24 := fun w hw => (hS.2.2.1 (K p) w hw).1
  cases e : (M (K p)).drop (s - 1) with
  | nil =>
    have hle : (M (K p)).length ≤ s - 1 := by
      have := congrArg List.length e
      simp at this
      omega
    have hcut : qv_cut M (K p) s = M := by
      funext j
      by_cases z : j = K p
      · rw [z, qv_cut1, List.take_of_length_le (by omega)]
      · rw [qv_cut2 z]
    refine ⟨a3, a7, 0, by rw [hcut]; exact hH, by rw [hcut]; exact hS, by omega, ?_⟩
    intro post ty bu ma a4 a5 a6 a8 a9 a10 h
    unfold wpX_cutChain
    rw [nI_clamp (show p < 2 ^ 31 by omega)]
    refine ⟨pk_in p 24 (by omega), nm_e ⟨25, qv_cc10 hs (M (K p)) _ 1 25 hch hlt hs1 (by omega) (fun x hx => ?_)⟩⟩
    rw [e] at hx
    have hx2 : x = -1 := hx
    subst hx2
    unfold wX_cutChain_33
    exact br_f (by decide) h
  | cons v q =>
    have hlen : s - 1 < (M (K p)).length := by
      have := congrArg List.length e
      simp at this
      omega
    have e1 : M (K p) = (M (K p)).take (s - 1) ++ v :: q := by rw [← e, List.take_append_drop]
    have e2 : ((M (K p)).take (s - 1)).length + 1 = s := by
      rw [List.length_take]
      omega
    have hv : v < 24 := hlt v (by rw [e1]; simp)
    have hnd := hS.1 (K p)
    have hlq : q.length < 24 := by
      have := congrArg List.length e1
      rw [List.length_append, List.length_cons] at this
      omega
    rw [e1, List.nodup_append, List.nodup_cons] at hnd
    have hH2 := qv_H_cut hA hH hS hp e1
    have hS2 := qv_S_cut hS e1
    rw [e2] at hH2 hS2
    have hmq : ∀ w, w ∈ q → w < 24 ∧ a3 w ≠ 0 := fun w hw => hS.2.2.1 (K p) w (by rw [e1]; simp [hw])
    have hcnt := qv_clr_cnt q a3 hnd.2.1.2 hmq
    refine ⟨qv_clr a3 q, upd a7 v (-1), q.length, hH2, hS2, by omega, ?_⟩
    intro post ty bu ma a4 a5 a6 a8 a9 a10 h
    unfold wpX_cutChain
    rw [nI_clamp (show p < 2 ^ 31 by omega)]
    refine ⟨pk_in p 24 (by omega), nm_e ⟨25, qv_cc10 hs (M (K p)) _ 1 25 hch hlt hs1 (by omega) (fun x hx => ?_)⟩⟩
    rw [e] at hx
    obtain ⟨hx1, hx2⟩ := hx
    subst hx1
    unfold wX_cutChain_33
    refine br_t (nI_pos' (by omega)) ⟨pk_in v 24 hv, ?_⟩
    rw [nI_clamp (show v < 2 ^ 31 by omega)]
    refine nm_e ⟨pk_in v 24 hv, nm_e ⟨25, qv_cc60 q _ a3 0 0 25 (qv_ch_upd q _ hnd.2.1.1 hx2) hmq hnd.2.1.2 (by omega) (by omega) ?_⟩⟩
    rw [Nat.zero_add]
    exact h
end
end
section
/-! the public methods that change the state -/
def qv_I (t b m n : Nat) (K : Nat → Nat) (M : Nat → List Nat) (a1 a2 a3 a4 a7 a8 : Nat → Int32) : Prop := qv_T t b ∧ qv_A n K a1 ∧ qv_H n K M a2 a7 ∧ qv_S M a3 ∧ qv_N M a4 m ∧ qv_U a8
theorem qv_T_b {t b : Nat} (h : qv_T t b) : b < 2401 := by
  have h1 : 0 < 7 ^ (4 - t) := Nat.pow_pos (by decide)
  have h2 := h.2.1
  omega
section
variable {ty bu ke ma th : Int32} {a1 a2 a3 a4 a5 a6 a7 a8 a9 a10 : Nat → Int32} {t b n k m : Nat} {K : Nat → Nat} {M : Nat → List Nat}
theorem qv_typeL (hT : qv_T t b) (x : Int32) : ∃ (t' b' : Nat) (r : Int32), qv_T t' b' ∧ (x = 3 → 0 < t') ∧ ∀ (post : Int32 → St1 → Prop) (ke ma th : Int32) (a1 a2 a3 a4 a5 a6 a7 a8 a9 a10 : Nat → Int32), post r (nI t', nI b', ke, ma, th, a1, a2, a3, a4, a5, a6, a7, a8, a9, a10) → wpX_type post (nI t, nI b, ke, ma, th, a1, a2, a3, a4, a5, a6, a7, a8, a9, a10) x := by
  obtain ⟨h1, h2, h3⟩ := hT
  rcases pk_ix x (n := 6) (by decide) with z | z | ⟨j, hj, e⟩
  · refine ⟨t, b, -1, ⟨h1, h2, h3⟩, fun e => absurd (e ▸ z) (by decide), fun post ke ma th a1 a2 a3 a4 a5 a6 a7 a8 a9 a10 h => ?_⟩
    exact br_t z h
  · refine ⟨t, b, -1, ⟨h1, h2, h3⟩, fun e => absurd (e ▸ z) (by decide), fun post ke ma th a1 a2 a3 a4 a5 a6 a7 a8 a9 a10 h => ?_⟩
    refine br_c (fun _ => h) (fun _ => br_c (fun g => absurd (Int32.le_trans z g) (by decide)) (fun _ => h))
  · subst e
    by_cases ht : t < 4
    · have e4 : 7 ^ (4 - t) = 7 * 7 ^ (3 - t) := by
        rw [show 4 - t = (3 - t) + 1 by omega, Nat.pow_succ, Nat.mul_comm]
      have hpos : 0 < 7 ^ (3 - t) := Nat.pow_pos (by decide)
      have hj6 : (j + 1) * 7 ^ (3 - t) ≤ 6 * 7 ^ (3 - t) := Nat.mul_le_mul_right _ (by omega)
      have hj1 : 1 * 7 ^ (3 - t) ≤ (j + 1) * 7 ^ (3 - t) := Nat.mul_le_mul_right _ (by omega)
      refine ⟨t + 1, b + (j + 1) * 7 ^ (3 - t), nI (t + 1), ⟨by omega, ?_, fun _ => by omega⟩, fun _ => by omega, fun post ke ma th a1 a2 a3 a4 a5 a6 a7 a8 a9 a10 h => ?_⟩
      · rw [show 4 - (t + 1) = 3 - t by omega]
        omega
      · refine br_f (nI_pos (by omega)) (pk_le j 5 (fun _ => pk_lt t 4 (fun _ => qv_unit ht ?_) (fun g => absurd g (by omega))) (fun g => absurd g (by omega)))
        refine nm_r (e' := nI (b + (j + 1) * 7 ^ (3 - t))) ?_ (nm_r (nI_1 t) h)
        rw [nI_1, pk_mul, nI_add]
    · refine ⟨t, b, -2, ⟨h1, h2, h3⟩, fun _ => by omega, fun post ke ma th a1 a2 a3 a4 a5 a6 a7 a8 a9 a10 h => ?_⟩
      exact br_f (nI_pos (by omega)) (pk_le j 5 (fun _ => pk_lt t 4 (fun g => absurd g ht) (fun _ => h)) (fun g => absurd g (by omega)))
theorem qv_put_0 {post : Int32 → St1 → Prop} {x : Int32} (h : post (-3) (nI 0, bu, ke, ma, th, a1, a2, a3, a4, a5, a6, a7, a8, a9, a10)) : wpX_put post (nI 0, bu, ke, ma, th, a1, a2, a3, a4, a5, a6, a7, a8, a9, a10) x := br_t rfl h
theorem qv_put_full {post : Int32 → St1 → Prop} {x : Int32} (ht : 0 < t) (ht4 : t ≤ 4) (hc : ¬ qv_cnt a3 24 < 24) (h : post (-2) (nI t, bu, ke, ma, nI (qv_cnt a3 24), a1, a2, a3, a4, a5, a6, a7, a8, a9, a10)) : wpX_put post (nI t, bu, ke, ma, nI (qv_cnt a3 24), a1, a2, a3, a4, a5, a6, a7, a8, a9, a10) x := by
  have hle := qv_cnt_le a3 24
  exact br_f (nI_ne0 ht (by omega)) (pk_lt (qv_cnt a3 24) 24 (fun z => absurd z hc) (fun _ => h))
theorem qv_add_I {v n' : Nat} {K' : Nat → Nat} {a1' a2' a7' : Nat → Int32} (hI : qv_I t b m n K M a1 a2 a3 a4 a7 a8) (hm : m < 2 ^ 31) (hv : v < 24) (h0 : a3 v = 0) (hA' : qv_A n' K' a1') (hH' : qv_H n' K' (qv_add M k v) a2' a7') : qv_I t b (m + 1) n' K' (qv_add M k v) a1' a2' (upd a3 v 1) (upd a4 v (nI m)) a7' a8 :=
  ⟨hI.1, hA', hH', qv_S_add hI.2.2.2.1 hv h0, qv_N_add hI.2.2.2.2.1 hm (qv_fresh hI.2.2.2.1 h0), hI.2.2.2.2.2⟩
theorem qv_put_ok (hI : qv_I t b m n K M a1 a2 a3 a4 a7 a8) (hm : m < 2 ^ 31) (ht : 0 < t) (hc : qv_cnt a3 24 < 24) :
    ∃ (v n' : Nat) (K' : Nat → Nat) (a1' a2' a7' : Nat → Int32), v < 24 ∧ a3 v = 0 ∧ qv_I t b (m + 1) n' K' (qv_add M b v) a1' a2' (upd a3 v 1) (upd a4 v (nI m)) a7' a8 ∧
      ∀ (post : Int32 → St1 → Prop) (x : Int32) (a5 a6 a9 a10 : Nat → Int32),
        post (nI m) (nI t, nI b, nI n', nI (m + 1), nI (qv_cnt (upd a3 v 1) 24), a1', a2', upd a3 v 1, upd a4 v (nI m), upd a5 v x, upd a6 v 0, a7', a8, a9, a10) →
        wpX_put post (nI t, nI b, nI n, nI m, nI (qv_cnt a3 24), a1, a2, a3, a4, a5, a6, a7, a8, a9, a10) x := by
  have hT := hI.1
  obtain ⟨v, n', K', a1', a2', a7', hv, h0, hA', hH', hw⟩ := qv_addVersion (k := b) (m := m) hI.2.1 hI.2.2.1 hI.2.2.2.1 (hT.2.2 ht) (qv_T_b hT) hc
  refine ⟨v, n', K', a1', a2', a7', hv, h0, qv_add_I hI hm hv h0 hA' hH', ?_⟩
  intro post x a5 a6 a9 a10 h
  have h4 := hT.1
  exact br_f (nI_ne0 ht (by omega)) (pk_lt (qv_cnt a3 24) 24 (fun _ => hw _ _ _ _ _ _ _ _ _ _ _ h) (fun z => absurd z (by omega)))
theorem qv_remove_no {post : Int32 → St1 → Prop} (hI : qv_I t b m n K M a1 a2 a3 a4 a7 a8) (hx : t = 0 ∨ qv_P M a6 b = false) (h : post (-3) (nI t, nI b, nI n, ma, th, a1, a2, a3, a4, a5, a6, a7, a8, a9, a10)) : wpX_remove post (nI t, nI b, nI n, ma, th, a1, a2, a3, a4, a5, a6, a7, a8, a9, a10) := by
  have hT := hI.1
  have hb := qv_T_b hT
  have hn := hI.2.1.1
  have h4 := hT.1
  unfold wpX_remove
  cases e : M b with
  | nil => exact qv_place_no hI.2.1 hI.2.2.1 (by omega) e (br_c (fun _ => h) (fun _ => qv_isP_no (br_t rfl h)))
  | cons v l =>
    obtain ⟨p, h1, h2, h3⟩ := qv_place_yes hI.2.1 hI.2.2.1 (show b < 2 ^ 31 by omega) (by rw [e]; simp)
    have h5 := (hI.2.2.1.1 p h1).2
    rw [h2, e] at h5
    have hv : v < 24 := (hI.2.2.2.1.2.2.1 b v (by rw [e]; simp)).1
    refine h3 _ _ _ _ _ _ _ _ _ _ _ _ _ _ (pk_eq t 0 (fun _ => h) (fun z => qv_isP (v := v) (by omega) hv h5.1 (fun g => ?_) (fun g => br_t rfl h)))
    rcases hx with hx | hx
    · exact absurd hx z
    · rw [qv_P_cons e, decide_eq_true g] at hx
      exact absurd hx (by decide)
theorem qv_remove_full {post : Int32 → St1 → Prop} (hI : qv_I t b m n K M a1 a2 a3 a4 a7 a8) (ht : 0 < t) (hx : qv_P M a6 b = true) (hc : ¬ qv_cnt a3 24 < 24) (h : post (-2) (nI t, nI b, nI n, ma, nI (qv_cnt a3 24), a1, a2, a3, a4, a5, a6, a7, a8, a9, a10)) : wpX_remove post (nI t, nI b, nI n, ma, nI (qv_cnt a3 24), a1, a2, a3, a4, a5, a6, a7, a8, a9, a10) := by
  have hT := hI.1
  have hb := qv_T_b hT
  have hn := hI.2.1.1
  have h4 := hT.1
  have hle := qv_cnt_le a3 24
  unfold wpX_remove
  cases e : M b with
  | nil =>
    rw [qv_P_nil e] at hx
    exact absurd hx (by decide)
  | cons v l =>
    obtain ⟨p, h1, h2, h3⟩ := qv_place_yes hI.2.1 hI.2.2.1 (show b < 2 ^ 31 by omega) (by rw [e]; simp)
    have h5 := (hI.2.2.1.1 p h1).2
    rw [h2, e] at h5
    have hv : v < 24 := (hI.2.2.2.1.2.2.1 b v (by rw [e]; simp)).1
    refine h3 _ _ _ _ _ _ _ _ _ _ _ _ _ _ (pk_eq t 0 (fun z => absurd z (by omega)) (fun z => qv_isP (v := v) (by omega) hv h5.1 (fun g => ?_) (fun g => ?_)))
    · exact br_f (by decide) (pk_lt (qv_cnt a3 24) 24 (fun z => absurd z hc) (fun _ => h))
    · rw [qv_P_cons e, decide_eq_false g] at hx
      exact absurd hx (by decide)
theorem qv_remove_ok (hI : qv_I t b m n K M a1 a2 a3 a4 a7 a8) (hm : m < 2 ^ 31) (ht : 0 < t) (hx : qv_P M a6 b = true) (hc : qv_cnt a3 24 < 24) :
    ∃ (v n' : Nat) (K' : Nat → Nat) (a1' a2' a7' : Nat → Int32), v < 24 ∧ a3 v = 0 ∧ qv_I t b (m + 1) n' K' (qv_add M b v) a1' a2' (upd a3 v 1) (upd a4 v (nI m)) a7' a8 ∧
      ∀ (post : Int32 → St1 → Prop) (a5 a9 a10 : Nat → Int32),
        post (nI m) (nI t, nI b, nI n', nI (m + 1), nI (qv_cnt (upd a3 v 1) 24), a1', a2', upd a3 v 1, upd a4 v (nI m), upd a5 v 0, upd a6 v 1, a7', a8, a9, a10) →
        wpX_remove post (nI t, nI b, nI n, nI m, nI (qv_cnt a3 24), a1, a2, a3, a4, a5, a6, a7, a8, a9, a10) := by
  have hT := hI.1
  have hb := qv_T_b hT
  have hn := hI.2.1.1
  have h4 := hT.1
  obtain ⟨v, n', K', a1', a2', a7', hv, h0, hA', hH', hw⟩ := qv_addVersion (k := b) (m := m) hI.2.1 hI.2.2.1 hI.2.2.2.1 (hT.2.2 ht) hb hc
  refine ⟨v, n', K', a1', a2', a7', hv, h0, qv_add_I hI hm hv h0 hA' hH', ?_⟩
  intro post a5 a9 a10 h
  unfold wpX_remove
  cases e : M b with
  | nil =>
    rw [qv_P_nil e] at hx
    exact absurd hx (by decide)
  | cons w l =>
    obtain ⟨p, h1, h2, h3⟩ := qv_place_yes hI.2.1 hI.2.2.1 (show b < 2 ^ 31 by omega) (by rw [e]; simp)
    have h5 := (hI.2.2.1.1 p h1).2
    rw [h2, e] at h5
    have hv : w < 24 := (hI.2.2.2.1.2.2.1 b w (by rw [e]; simp)).1
    refine h3 _ _ _ _ _ _ _ _ _ _ _ _ _ _ (pk_eq t 0 (fun z => absurd z (by omega)) (fun z => qv_isP (v := w) (by omega) hv h5.1 (fun g => ?_) (fun g => ?_)))
    · exact br_f (by decide) (pk_lt (qv_cnt a3 24) 24 (fun _ => hw _ _ _ _ _ _ _ _ _ _ _ h) (fun z => absurd z (by omega)))
    · rw [qv_P_cons e, decide_eq_false g] at hx
      exact absurd hx (by decide)
theorem qv_del_I {v n' : Nat} {K' : Nat → Nat} {a1' a2' a7' : Nat → Int32} (hI : qv_I t b m n K M a1 a2 a3 a4 a7 a8) (hA' : qv_A n' K' a1') (hH' : qv_H n' K' (qv_del M v) a2' a7') : qv_I t b m n' K' (qv_del M v) a1' a2' (upd a3 v 0) a4 a7' a8 :=
  ⟨hI.1, hA', hH', qv_S_del hI.2.2.2.1 v, qv_N_sub hI.2.2.2.2.1 (fun j w hw => ((qv_del_mem hI.2.2.2.1).mp hw).2), hI.2.2.2.2.2⟩
theorem qv_destroy_no {post : Int32 → St1 → Prop} {x : Int32} (hx : ∀ v, v < 24 → a3 v ≠ 0 → a4 v ≠ x) (h : post (-4) (ty, bu, ke, ma, th, a1, a2, a3, a4, a5, a6, a7, a8, a9, a10)) : wpX_destroy post (ty, bu, ke, ma, th, a1, a2, a3, a4, a5, a6, a7, a8, a9, a10) x := by
  unfold wpX_destroy
  exact qv_slot_no hx (br_f (by decide) h)
theorem qv_destroy {v : Nat} (hI : qv_I t b m n K M a1 a2 a3 a4 a7 a8) (hv : v ∈ M k) :
    ∃ (n' : Nat) (K' : Nat → Nat) (a1' a2' a7' : Nat → Int32), qv_I t b m n' K' (qv_del M v) a1' a2' (upd a3 v 0) a4 a7' a8 ∧
      ∀ (post : Int32 → St1 → Prop) (ty bu ma : Int32) (a5 a6 a9 a10 : Nat → Int32),
        post (nI (qv_cnt (upd a3 v 0) 24)) (ty, bu, nI n', ma, nI (qv_cnt (upd a3 v 0) 24), a1', a2', upd a3 v 0, a4, a5, a6, a7', a8, a9, a10) →
        wpX_destroy post (ty, bu, nI n, ma, nI (qv_cnt a3 24), a1, a2, a3, a4, a5, a6, a7, a8, a9, a10) (a4 v) := by
  have hA := hI.2.1
  have hH := hI.2.2.1
  have hS := hI.2.2.2.1
  have hn := hA.1
  have hv24 := (hS.2.2.1 k v hv).1
  obtain ⟨p, hp, e⟩ := hH.2 k (fun z => by rw [z] at hv; exact absurd hv List.not_mem_nil)
  subst e
  obtain ⟨n', K', a1', a2', a7', hA', hH', _, _, hw⟩ := qv_unchain_yes hA hH hS hp hv
  refine ⟨n', K', a1', a2', a7', qv_del_I hI hA' hH', ?_⟩
  intro post ty bu ma a5 a6 a9 a10 h
  unfold wpX_destroy
  refine qv_slot hS hI.2.2.2.2.1 hv (br_t (nI_pos' (by omega)) ?_)
  have key : ∀ d i f, p = i + d → d + 2 ≤ f → wX_destroy_18 post (nI v) f 0 (nI i) ty bu (nI n) ma (nI (qv_cnt a3 24)) a1 a2 a3 a4 a5 a6 a7 a8 a9 a10 := by
    intro d
    induction d with
    | zero =>
      intro i f hi hf
      have ei : i = p := by omega
      subst ei
      obtain ⟨g, eg⟩ : ∃ g, f = g + 2 := ⟨f - 2, by omega⟩
      subst eg
      refine pk_le n i (fun z => absurd z (by omega)) (fun _ => br_t rfl (hw _ _ _ _ _ _ _ _ _ _ (nm_e ?_)))
      exact br_c (fun _ => h) (fun _ => br_f (by decide) h)
    | succ d ih =>
      intro i f hi hf
      obtain ⟨g, eg⟩ : ∃ g, f = g + 1 := ⟨f - 1, by omega⟩
      subst eg
      refine pk_le n i (fun z => absurd z (by omega)) (fun _ => br_t rfl (qv_unchain_no hA hH hS (by omega) hv24 ?_ (nm_r (nI_1 i) (ih (i + 1) g (by omega) (by omega)))))
      intro z
      have := hS.2.1 _ _ v z hv
      have := hA.2.2 i p (by omega) hp
      omega
  exact ⟨p + 2, key p 0 (p + 2) (by omega) (by omega)⟩
theorem qv_begin_0 {post : Int32 → St1 → Prop} (h : post (-3) (nI 0, bu, ke, ma, th, a1, a2, a3, a4, a5, a6, a7, a8, a9, a10)) : wpX_begin post (nI 0, bu, ke, ma, th, a1, a2, a3, a4, a5, a6, a7, a8, a9, a10) := br_t rfl h
theorem qv_begin12 {post : Int32 → St1 → Prop} {u : Nat} (hu : u ≤ 3) (h1 : ∀ j, j < u → a8 j ≠ 0) (h2 : u < 3 → a8 u = 0) (h : wX_begin_32 post (nI u) ty bu ke ma th a1 a2 a3 a4 a5 a6 a7 a8 a9 a10) : ∃ f, wX_begin_12 post ty bu ke ma th a1 a2 a3 a4 a5 a6 a7 a8 a9 a10 f 0 :=
  pk_loop (σ := Unit) (fun f i _ => wX_begin_12 post ty bu ke ma th a1 a2 a3 a4 a5 a6 a7 a8 a9 a10 f (nI i)) (fun _ _ => True) u 0 () (by omega) trivial
    (fun f _ _ => pk_le 3 u (fun _ => h) (fun z => ⟨pk_in u 3 z, br_t (by rw [nI_clamp (by omega)]; exact h2 z) h⟩))
    (fun f i _ hi _ hw => pk_le 3 i (fun z => absurd z (by omega)) (fun z => ⟨pk_in i 3 z, br_f (by rw [nI_clamp (by omega)]; exact h1 i hi) (nm_r (nI_1 i) (hw () trivial))⟩))
theorem qv_begin (a8 : Nat → Int32) : ((∀ j, j < 3 → a8 j ≠ 0) ∧ ∀ (post : Int32 → St1 → Prop) (t : Nat) (bu ke ma th : Int32) (a1 a2 a3 a4 a5 a6 a7 a9 a10 : Nat → Int32), 0 < t → t ≤ 4 → post (-2) (nI t, bu, ke, ma, th, a1, a2, a3, a4, a5, a6, a7, a8, a9, a10) → wpX_begin post (nI t, bu, ke, ma, th, a1, a2, a3, a4, a5, a6, a7, a8, a9, a10)) ∨
    (∃ u, u < 3 ∧ a8 u = 0 ∧ ∀ (post : Int32 → St1 → Prop) (t : Nat) (bu ke ma th : Int32) (a1 a2 a3 a4 a5 a6 a7 a9 a10 : Nat → Int32), 0 < t → t ≤ 4 → post (nI u) (nI t, bu, ke, ma, th, a1, a2, a3, a4, a5, a6, a7, upd a8 u bu, upd a9 u 0, a10) → wpX_begin post (nI t, bu, ke, ma, th, a1, a2, a3, a4, a5, a6, a7, a8, a9, a10)) := by
  by_cases hx : ∃ u, u < 3 ∧ a8 u = 0
  · right
    obtain ⟨u, ⟨h1, h2⟩, h3⟩ := pk_least (fun u => u < 3 ∧ a8 u = 0) hx
    refine ⟨u, h1, h2, ?_⟩
    intro post t bu ke ma th a1 a2 a3 a4 a5 a6 a7 a9 a10 ht ht4 h
    refine br_f (nI_ne0 ht (by omega)) (qv_begin12 (u := u) (by omega) (fun j hj e => h3 j hj ⟨by omega, e⟩) (fun _ => h2) ?_)
    unfold wX_begin_32
    refine pk_eq u 3 (fun z => absurd z (by omega)) (fun _ => ⟨pk_in u 3 h1, ?_⟩)
    rw [nI_clamp (show u < 2 ^ 31 by omega)]
    exact nm_e ⟨pk_in u 3 h1, nm_e h⟩
  · left
    have h1 : ∀ j, j < 3 → a8 j ≠ 0 := fun j hj e => hx ⟨j, hj, e⟩
    refine ⟨h1, ?_⟩
    intro post t bu ke ma th a1 a2 a3 a4 a5 a6 a7 a9 a10 ht ht4 h
    refine br_f (nI_ne0 ht (by omega)) (qv_begin12 (u := 3) (by omega) h1 (fun z => absurd z (by omega)) ?_)
    unfold wX_begin_32
    exact br_t rfl h
theorem qv_part_no {post : Int32 → St1 → Prop} {x y z : Int32} (hx : ¬ ∃ u, u < 3 ∧ x = nI u ∧ a8 u ≠ 0) (h : post (-5) (ty, bu, ke, ma, th, a1, a2, a3, a4, a5, a6, a7, a8, a9, a10)) : wpX_part post (ty, bu, ke, ma, th, a1, a2, a3, a4, a5, a6, a7, a8, a9, a10) x y z := by
  unfold wpX_part
  exact qv_noUp (fun u hu e g => absurd ⟨u, hu, e, g⟩ hx) (fun _ => br_f (by decide) h)
theorem qv_part_bad {post : Int32 → St1 → Prop} {u : Nat} {y z : Int32} (hu : u < 3) (h8 : a8 u ≠ 0) (hy : ¬ ∃ j : Nat, j < 8 ∧ y = nI j) (h : post (-6) (ty, bu, ke, ma, th, a1, a2, a3, a4, a5, a6, a7, a8, a9, a10)) : wpX_part post (ty, bu, ke, ma, th, a1, a2, a3, a4, a5, a6, a7, a8, a9, a10) (nI u) y z := by
  unfold wpX_part
  refine qv_noUp (fun w hw e g => br_t rfl ?_) (fun g => absurd ⟨u, hu, rfl, h8⟩ g)
  refine br_c (fun _ => h) (fun g1 => br_c (fun g2 => absurd ?_ hy) (fun _ => h))
  rcases pk_ix y (n := 8) (by decide) with q | q | q
  · exact absurd q g1
  · exact absurd (Int32.le_trans q g2) (by decide)
  · exact q
theorem qv_part {post : Int32 → St1 → Prop} {u y : Nat} {z : Int32} (hu : u < 3) (h8 : a8 u ≠ 0) (hy : y < 8) (h : post (qv_bs (a9 u ||| ((1 : Int32) <<< (nI y &&& 31))) 8) (ty, bu, ke, ma, th, a1, a2, a3, a4, a5, a6, a7, a8, upd a9 u (a9 u ||| ((1 : Int32) <<< (nI y &&& 31))), upd a10 (u * 8 + y) z)) : wpX_part post (ty, bu, ke, ma, th, a1, a2, a3, a4, a5, a6, a7, a8, a9, a10) (nI u) (nI y) z := by
  unfold wpX_part
  refine qv_noUp (fun w hw e g => br_t rfl ?_) (fun g => absurd ⟨u, hu, rfl, h8⟩ g)
  refine br_f (nI_pos (by omega)) (pk_le y 7 (fun _ => ⟨pk_in u 3 hu, pk_in u 3 hu, ?_⟩) (fun g => absurd g (by omega)))
  have e1 : nI u * 8 + nI y = nI (u * 8 + y) := by
    rw [show (8 : Int32) = nI 8 from rfl, pk_mul, nI_add]
  rw [nI_clamp (show u < 2 ^ 31 by omega), e1, nI_clamp (show u * 8 + y < 2 ^ 31 by omega)]
  refine nm_e ⟨pk_in (u * 8 + y) 24 (by omega), nm_e ⟨pk_in u 3 hu, qv_bits ?_⟩⟩
  rw [pk_us]
  exact h
theorem qv_abort_no {post : Int32 → St1 → Prop} {x : Int32} (hx : ¬ ∃ u, u < 3 ∧ x = nI u ∧ a8 u ≠ 0) (h : post (-5) (ty, bu, ke, ma, th, a1, a2, a3, a4, a5, a6, a7, a8, a9, a10)) : wpX_abort post (ty, bu, ke, ma, th, a1, a2, a3, a4, a5, a6, a7, a8, a9, a10) x := by
  unfold wpX_abort
  exact qv_noUp (fun u hu e g => absurd ⟨u, hu, e, g⟩ hx) (fun _ => br_f (by decide) h)
theorem qv_abort {post : Int32 → St1 → Prop} {u : Nat} (hu : u < 3) (h8 : a8 u ≠ 0) (h : post (qv_bs (a9 u) 8) (ty, bu, ke, ma, th, a1, a2, a3, a4, a5, a6, a7, upd a8 u 0, a9, a10)) : wpX_abort post (ty, bu, ke, ma, th, a1, a2, a3, a4, a5, a6, a7, a8, a9, a10) (nI u) := by
  unfold wpX_abort
  refine qv_noUp (fun w hw e g => br_t rfl ⟨pk_in u 3 hu, ?_⟩) (fun g => absurd ⟨u, hu, rfl, h8⟩ g)
  rw [nI_clamp (show u < 2 ^ 31 by omega)]
  exact nm_e ⟨pk_in u 3 hu, qv_bits h⟩
def qv_co (x : Int32) (a : Nat → Int32) (u : Nat) : Nat → Int32
  | 0 => 0
  | i + 1 => if ((x >>> (nI i &&& 31)) &&& 1) = 1 then qv_co x a u i * 31 + a (u * 8 + i) else qv_co x a u i
theorem qv_comp_no {post : Int32 → St1 → Prop} {x y : Int32} (hx : ¬ ∃ u, u < 3 ∧ x = nI u ∧ a8 u ≠ 0) (h : post (-5) (ty, bu, ke, ma, th, a1, a2, a3, a4, a5, a6, a7, a8, a9, a10)) : wpX_complete post (ty, bu, ke, ma, th, a1, a2, a3, a4, a5, a6, a7, a8, a9, a10) x y := by
  unfold wpX_complete
  exact qv_noUp (fun u hu e g => absurd ⟨u, hu, e, g⟩ hx) (fun _ => br_f (by decide) h)
theorem qv_comp_bad {post : Int32 → St1 → Prop} {u : Nat} {y : Int32} (hu : u < 3) (h8 : a8 u ≠ 0) (hy : y &&& 255 = 0 ∨ ¬ ((y &&& 255) &&& (a9 u ^^^ (-1))) = 0) (h : post (-6) (ty, bu, ke, ma, th, a1, a2, a3, a4, a5, a6, a7, a8, a9, a10)) : wpX_complete post (ty, bu, ke, ma, th, a1, a2, a3, a4, a5, a6, a7, a8, a9, a10) (nI u) y := by
  unfold wpX_complete
  refine qv_noUp (fun w hw e g => br_t rfl (nm_e (br_c (fun _ => h) (fun g1 => ⟨pk_in u 3 hu, ?_⟩)))) (fun g => absurd ⟨u, hu, rfl, h8⟩ g)
  rw [nI_clamp (show u < 2 ^ 31 by omega)]
  rcases hy with q | q
  · exact absurd q g1
  · exact br_f q h
theorem qv_comp_full {post : Int32 → St1 → Prop} {u : Nat} {y : Int32} (hu : u < 3) (h8 : a8 u ≠ 0) (h1 : ¬ y &&& 255 = 0) (h2 : ((y &&& 255) &&& (a9 u ^^^ (-1))) = 0) (hc : ¬ qv_cnt a3 24 < 24) (h : post (-2) (ty, bu, ke, ma, nI (qv_cnt a3 24), a1, a2, a3, a4, a5, a6, a7, a8, a9, a10)) : wpX_complete post (ty, bu, ke, ma, nI (qv_cnt a3 24), a1, a2, a3, a4, a5, a6, a7, a8, a9, a10) (nI u) y := by
  have hle := qv_cnt_le a3 24
  unfold wpX_complete
  refine qv_noUp (fun w hw e g => br_t rfl (nm_e (br_f h1 ⟨pk_in u 3 hu, ?_⟩))) (fun g => absurd ⟨u, hu, rfl, h8⟩ g)
  rw [nI_clamp (show u < 2 ^ 31 by omega)]
  exact br_t h2 (pk_lt (qv_cnt a3 24) 24 (fun z => absurd z hc) (fun _ => h))
theorem qv_comp55 {post : Int32 → St1 → Prop} {u : Nat} {x3 : Int32} (hu : u < 3) (h : wpX_addVersion post (ty, bu, ke, ma, th, a1, a2, a3, a4, a5, a6, a7, upd a8 u 0, a9, a10) (a8 u) (qv_co x3 a10 u 8) 0) : ∃ f, wX_complete_55 post (nI u) x3 ty bu ke ma th a1 a2 a3 a4 a5 a6 a7 a8 a9 a10 f 0 0 :=
  pk_loop (σ := Unit) (fun f i _ => wX_complete_55 post (nI u) x3 ty bu ke ma th a1 a2 a3 a4 a5 a6 a7 a8 a9 a10 f (qv_co x3 a10 u i) (nI i)) (fun _ _ => True) 8 0 () (by omega) trivial
    (fun f _ _ => pk_le 8 8 (fun _ => by
      rw [nI_clamp (show u < 2 ^ 31 by omega)]
      exact ⟨pk_in u 3 hu, nm_e ⟨pk_in u 3 hu, nm_e h⟩⟩) (fun z => absurd z (by omega)))
    (fun f i _ hi _ hw => pk_le 8 i (fun z => absurd z (by omega)) (fun z => by
      have e1 : nI u * 8 + nI i = nI (u * 8 + i) := by
        rw [show (8 : Int32) = nI 8 from rfl, pk_mul, nI_add]
      rw [e1, nI_clamp (show u * 8 + i < 2 ^ 31 by omega)]
      have hw2 := hw () trivial
      refine br_c (fun g => ⟨pk_in (u * 8 + i) 24 (by omega), nm_r (e' := qv_co x3 a10 u (i + 1)) ?_ (nm_r (nI_1 i) hw2)⟩) (fun g => nm_r (nI_1 i) ?_)
      · exact (if_pos g).symm
      · have e2 : qv_co x3 a10 u (i + 1) = qv_co x3 a10 u i := if_neg g
        rw [e2] at hw2
        exact hw2))
theorem qv_U_upd {u k : Nat} (hU : qv_U a8) (hk : k < 2401) : qv_U (upd a8 u (nI k)) := by
  intro w hw
  by_cases e : w = u
  · exact ⟨k, hk, by rw [e, pk_us]⟩
  · rw [pk_un e]
    exact hU w hw
theorem qv_comp_ok {u : Nat} (hI : qv_I t b m n K M a1 a2 a3 a4 a7 a8) (hm : m < 2 ^ 31) (hu : u < 3) (ek : a8 u = nI k) (hk : 0 < k) (hk2 : k < 2401) (hc : qv_cnt a3 24 < 24) :
    ∃ (v n' : Nat) (K' : Nat → Nat) (a1' a2' a7' : Nat → Int32), v < 24 ∧ a3 v = 0 ∧ qv_I t b (m + 1) n' K' (qv_add M k v) a1' a2' (upd a3 v 1) (upd a4 v (nI m)) a7' (upd a8 u 0) ∧
      ∀ (post : Int32 → St1 → Prop) (y : Int32) (a5 a6 a9 a10 : Nat → Int32), ¬ y &&& 255 = 0 → ((y &&& 255) &&& (a9 u ^^^ (-1))) = 0 →
        post (nI m) (nI t, nI b, nI n', nI (m + 1), nI (qv_cnt (upd a3 v 1) 24), a1', a2', upd a3 v 1, upd a4 v (nI m), upd a5 v (qv_co (y &&& 255) a10 u 8), upd a6 v 0, a7', upd a8 u 0, a9, a10) →
        wpX_complete post (nI t, nI b, nI n, nI m, nI (qv_cnt a3 24), a1, a2, a3, a4, a5, a6, a7, a8, a9, a10) (nI u) y := by
  obtain ⟨v, n', K', a1', a2', a7', hv, h0, hA', hH', hw⟩ := qv_addVersion (k := k) (m := m) hI.2.1 hI.2.2.1 hI.2.2.2.1 hk hk2 hc
  have hI2 := qv_add_I hI hm hv h0 hA' hH'
  have hU : qv_U (upd a8 u 0) := qv_U_upd (k := 0) hI.2.2.2.2.2 (by omega)
  refine ⟨v, n', K', a1', a2', a7', hv, h0, ⟨hI2.1, hI2.2.1, hI2.2.2.1, hI2.2.2.2.1, hI2.2.2.2.2.1, hU⟩, ?_⟩
  intro post y a5 a6 a9 a10 h1 h2 h
  have h8 : a8 u ≠ 0 := by
    rw [ek]
    exact nI_ne0 hk (by omega)
  unfold wpX_complete
  refine qv_noUp (fun w hw9 e g => br_t rfl (nm_e (br_f h1 ⟨pk_in u 3 hu, ?_⟩))) (fun g => absurd ⟨u, hu, rfl, h8⟩ g)
  rw [nI_clamp (show u < 2 ^ 31 by omega)]
  refine br_t h2 (pk_lt (qv_cnt a3 24) 24 (fun _ => qv_comp55 hu ?_) (fun z => absurd z (by omega)))
  rw [ek]
  exact hw _ _ _ _ _ _ _ _ _ _ _ h
end
end
section
/-! expire -/
def qv_ex (s : Nat) (a6 : Nat → Int32) (l : List Nat) : List Nat := match l.take s with
  | [] => []
  | [v] => if a6 v = 0 then [v] else []
  | v :: w :: r => v :: w :: r
theorem qv_ex_0 {s : Nat} {a6 : Nat → Int32} {l : List Nat} (h : l.take s = []) : qv_ex s a6 l = [] := by
  unfold qv_ex
  rw [h]
theorem qv_ex_1 {s v : Nat} {a6 : Nat → Int32} {l : List Nat} (h : l.take s = [v]) (h0 : a6 v = 0) : qv_ex s a6 l = [v] := by
  unfold qv_ex
  rw [h]
  exact if_pos h0
theorem qv_ex_1n {s v : Nat} {a6 : Nat → Int32} {l : List Nat} (h : l.take s = [v]) (h0 : ¬ a6 v = 0) : qv_ex s a6 l = [] := by
  unfold qv_ex
  rw [h]
  exact if_neg h0
theorem qv_ex_2 {s v w : Nat} {a6 : Nat → Int32} {l r : List Nat} (h : l.take s = v :: w :: r) : qv_ex s a6 l = v :: w :: r := by
  unfold qv_ex
  rw [h]
theorem qv_ex_sub {s v : Nat} {a6 : Nat → Int32} {l : List Nat} (h : v ∈ qv_ex s a6 l) : v ∈ l := by
  have key : ∀ q, l.take s = q → v ∈ qv_ex s a6 l → v ∈ q := by
    intro q hq hv
    match q, hq with
    | [], hq =>
      rw [qv_ex_0 hq] at hv
      exact hv
    | [w], hq =>
      by_cases g : a6 w = 0
      · rw [qv_ex_1 hq g] at hv
        exact hv
      · rw [qv_ex_1n hq g] at hv
        exact absurd hv List.not_mem_nil
    | w :: u :: r, hq =>
      rw [qv_ex_2 hq] at hv
      exact hv
  exact List.mem_of_mem_take (key _ rfl h)
def qv_dn : Nat → Int32
  | 0 => -1
  | c + 1 => nI c
theorem qv_dn_m (c : Nat) : nI c + (-1) = qv_dn c := by
  cases c with
  | zero => decide
  | succ c => exact pk_m1 c
theorem qv_dn_s (c : Nat) : nI c - 1 = qv_dn c := by
  cases c with
  | zero => decide
  | succ c => exact nI_pred c
section
variable {ty bu ke ma th : Int32} {a1 a2 a3 a4 a5 a6 a7 a8 a9 a10 : Nat → Int32} {t b n k m : Nat} {K : Nat → Nat} {M : Nat → List Nat}
theorem qv_exp33 {s : Nat} (hs1 : 1 ≤ s) (hs : s < 2 ^ 31) (a6 : Nat → Int32) (M0 : Nat → List Nat) (g0 : Nat) : ∀ (c n : Nat) (K : Nat → Nat) (M : Nat → List Nat) (a1 a2 a3 a7 : Nat → Int32) (g : Nat), qv_A n K a1 → qv_H n K M a2 a7 → qv_S M a3 → c ≤ n → (∀ i, i < c → M (K i) = M0 (K i)) → (∀ j, (∀ i, i < c → K i ≠ j) → M j = qv_ex s a6 (M0 j)) → g + qv_cnt a3 24 = g0 →
    ∃ (n' : Nat) (K' : Nat → Nat) (a1' a2' a3' a7' : Nat → Int32) (g' : Nat), qv_A n' K' a1' ∧ qv_H n' K' (fun j => qv_ex s a6 (M0 j)) a2' a7' ∧ qv_S (fun j => qv_ex s a6 (M0 j)) a3' ∧ g' + qv_cnt a3' 24 = g0 ∧
      ∀ (post : Int32 → St1 → Prop) (ty bu ma : Int32) (a4 a5 a8 a9 a10 : Nat → Int32),
        post (nI g') (ty, bu, nI n', ma, nI (qv_cnt a3' 24), a1', a2', a3', a4, a5, a6, a7', a8, a9, a10) →
        wX_expire_33 post (nI s) (c + 1) (nI g) (qv_dn c) ty bu (nI n) ma (nI (qv_cnt a3 24)) a1 a2 a3 a4 a5 a6 a7 a8 a9 a10 := by
  intro c
  induction c with
  | zero =>
    intro n K M a1 a2 a3 a7 g hA hH hS _ _ h2 hg
    have e : M = fun j => qv_ex s a6 (M0 j) := funext (fun j => h2 j (fun i hi => absurd hi (by omega)))
    subst e
    exact ⟨n, K, a1, a2, a3, a7, g, hA, hH, hS, hg, fun post ty bu ma a4 a5 a8 a9 a10 h => br_t (by decide) h⟩
  | succ c ih =>
    intro n K M a1 a2 a3 a7 g hA hH hS hcn h1 h2 hg
    have hn := hA.1
    have hp : c < n := by omega
    obtain ⟨a3c, a7c, gc, hHc, hSc, hgc, hwc⟩ := qv_cutChain hA hH hS hp hs1 hs
    have hK : M (K c) = M0 (K c) := h1 c (by omega)
    -- what a later state must meet
    have step : ∀ (n' : Nat) (K' : Nat → Nat) (M' : Nat → List Nat), c ≤ n' → (∀ i, i < c → K' i = K i) → M' (K c) = qv_ex s a6 (M0 (K c)) → (∀ j, j ≠ K c → M' j = M j) → c ≤ n' ∧ (∀ i, i < c → M' (K' i) = M0 (K' i)) ∧ (∀ j, (∀ i, i < c → K' i ≠ j) → M' j = qv_ex s a6 (M0 j)) := by
      intro n' K' M' q1 q2 q3 q4
      refine ⟨q1, ?_, ?_⟩
      · intro i hi
        have hne : K i ≠ K c := fun z => by
          have := qv_inj hA (by omega) hp z
          omega
        rw [q2 i hi, q4 _ hne]
        exact h1 i (by omega)
      · intro j hj
        by_cases z : j = K c
        · rw [z]
          exact q3
        · rw [q4 j z]
          refine h2 j (fun i hi => ?_)
          by_cases y : i = c
          · rw [y]
            exact fun w => z w.symm
          · rw [← q2 i (by omega)]
            exact hj i (by omega)
    have hcutne : ∀ j, j ≠ K c → qv_cut M (K c) s j = M j := fun j hj => qv_cut2 hj
    have hcut1 : qv_cut M (K c) s (K c) = (M0 (K c)).take s := by rw [qv_cut1, hK]
    have hchc := (hHc.1 c hp).2
    have hnec := (hHc.1 c hp).1
    rw [hcut1] at hchc hnec
    cases eT : (M0 (K c)).take s with
    | nil => exact absurd eT hnec
    | cons v r =>
      rw [eT] at hchc
      have hv : v < 24 := (hSc.2.2.1 (K c) v (by rw [hcut1, eT]; simp)).1
      by_cases g6 : a6 v = 0
      · -- the newest is no marker: the key stays
        have q3 : qv_cut M (K c) s (K c) = qv_ex s a6 (M0 (K c)) := by
          rw [hcut1]
          cases r with
          | nil => rw [eT, qv_ex_1 eT g6]
          | cons w r => rw [eT, qv_ex_2 eT]
        obtain ⟨q1, q2, q4⟩ := step n K _ (by omega) (fun _ _ => rfl) q3 hcutne
        obtain ⟨n', K', a1', a2', a3', a7', g', r1, r2, r3, r4, r5⟩ := ih n K _ a1 a2 a3c a7c (g + gc) hA hHc hSc q1 q2 q4 (by omega)
        refine ⟨n', K', a1', a2', a3', a7', g', r1, r2, r3, r4, ?_⟩
        intro post ty bu ma a4 a5 a8 a9 a10 h
        rw [show qv_dn (c + 1) = nI c from rfl]
        refine br_f (nI_pos (by omega)) (hwc _ _ _ _ _ _ _ _ _ _ (nm_r (nI_add g gc) ⟨pk_in c 24 (by omega), ?_⟩))
        rw [nI_clamp (show c < 2 ^ 31 by omega)]
        refine nm_r hchc.1 ⟨pk_in v 24 hv, ?_⟩
        rw [nI_clamp (show v < 2 ^ 31 by omega)]
        exact br_t g6 (nm_r (qv_dn_m c) (r5 _ _ _ _ _ _ _ _ _ h))
      · cases r with
        | cons w r =>
          have q3 : qv_cut M (K c) s (K c) = qv_ex s a6 (M0 (K c)) := by rw [hcut1, eT, qv_ex_2 eT]
          have hw : w < 24 := (hSc.2.2.1 (K c) w (by rw [hcut1, eT]; simp)).1
          obtain ⟨q1, q2, q4⟩ := step n K _ (by omega) (fun _ _ => rfl) q3 hcutne
          obtain ⟨n', K', a1', a2', a3', a7', g', r1, r2, r3, r4, r5⟩ := ih n K _ a1 a2 a3c a7c (g + gc) hA hHc hSc q1 q2 q4 (by omega)
          refine ⟨n', K', a1', a2', a3', a7', g', r1, r2, r3, r4, ?_⟩
          intro post ty bu ma a4 a5 a8 a9 a10 h
          rw [show qv_dn (c + 1) = nI c from rfl]
          refine br_f (nI_pos (by omega)) (hwc _ _ _ _ _ _ _ _ _ _ (nm_r (nI_add g gc) ⟨pk_in c 24 (by omega), ?_⟩))
          rw [nI_clamp (show c < 2 ^ 31 by omega)]
          refine nm_r hchc.1 ⟨pk_in v 24 hv, ?_⟩
          rw [nI_clamp (show v < 2 ^ 31 by omega), hchc.2.1]
          exact br_f g6 ⟨pk_in v 24 hv, br_t (nI_pos' (by omega)) (nm_r (qv_dn_m c) (r5 _ _ _ _ _ _ _ _ _ h))⟩
        | nil =>
          have hvm : v ∈ qv_cut M (K c) s (K c) := by rw [hcut1, eT]; simp
          obtain ⟨n1, K1, b1, b2, b7, hA1, hH1, hp1, hK1, hw1⟩ := qv_unchain_yes hA hHc hSc hp hvm
          have q3 : qv_del (qv_cut M (K c) s) v (K c) = qv_ex s a6 (M0 (K c)) := by
            show (qv_cut M (K c) s (K c)).erase v = _
            rw [hcut1, eT, List.erase_cons_head, qv_ex_1n eT g6]
          have q5 : ∀ j, j ≠ K c → qv_del (qv_cut M (K c) s) v j = M j := by
            intro j hj
            show (qv_cut M (K c) s j).erase v = M j
            rw [List.erase_of_not_mem (fun z => hj (hSc.2.1 j (K c) v z hvm)), hcutne j hj]
          obtain ⟨q1, q2, q4⟩ := step n1 K1 _ hp1 hK1 q3 q5
          have hclr := qv_cnt_clr (hSc.2.2.1 (K c) v hvm).2 24 hv
          obtain ⟨n', K', a1', a2', a3', a7', g', r1, r2, r3, r4, r5⟩ := ih n1 K1 _ b1 b2 (upd a3c v 0) b7 (g + gc + 1) hA1 hH1 (qv_S_del hSc v) q1 q2 q4 (by omega)
          refine ⟨n', K', a1', a2', a3', a7', g', r1, r2, r3, r4, ?_⟩
          intro post ty bu ma a4 a5 a8 a9 a10 h
          rw [show qv_dn (c + 1) = nI c from rfl]
          refine br_f (nI_pos (by omega)) (hwc _ _ _ _ _ _ _ _ _ _ (nm_r (nI_add g gc) ⟨pk_in c 24 (by omega), ?_⟩))
          rw [nI_clamp (show c < 2 ^ 31 by omega)]
          refine nm_r hchc.1 ⟨pk_in v 24 hv, ?_⟩
          have h7 : a7c v = -1 := hchc.2
          rw [nI_clamp (show v < 2 ^ 31 by omega), h7]
          exact br_f g6 ⟨pk_in v 24 hv, br_f (by decide) (hw1 _ _ _ _ _ _ _ _ _ _ (nm_r (nI_1 (g + gc)) (nm_r (qv_dn_m c) (r5 _ _ _ _ _ _ _ _ _ h))))⟩
theorem qv_stay (x : Int32) : ∃ s : Nat, 1 ≤ s ∧ s ≤ 25 ∧ (x = 24 → s = 25) ∧ (x = 0 → s = 1) ∧ ∀ (post : Int32 → St1 → Prop) (ty bu ke ma th : Int32) (a1 a2 a3 a4 a5 a6 a7 a8 a9 a10 : Nat → Int32), wX_expire_22 post (nI s) ty bu ke ma th a1 a2 a3 a4 a5 a6 a7 a8 a9 a10 → wpX_expire post (ty, bu, ke, ma, th, a1, a2, a3, a4, a5, a6, a7, a8, a9, a10) x := by
  rcases pk_ix x (n := 25) (by decide) with z | z | ⟨j, hj, e⟩
  · refine ⟨1, by omega, by omega, fun e => absurd (e ▸ z) (by decide), fun _ => rfl, ?_⟩
    intro post ty bu ke ma th a1 a2 a3 a4 a5 a6 a7 a8 a9 a10 h
    exact br_f (Int32.not_le.mpr z) h
  · refine ⟨25, by omega, by omega, fun _ => rfl, fun e => absurd (e ▸ z) (by decide), ?_⟩
    intro post ty bu ke ma th a1 a2 a3 a4 a5 a6 a7 a8 a9 a10 h
    exact br_t (Int32.le_trans (by decide) z) (br_f (fun g => absurd (Int32.le_trans z g) (by decide)) h)
  · subst e
    refine ⟨j + 1, by omega, by omega, fun e => ?_, fun e => ?_, ?_⟩
    · have e2 : nI j = nI 24 := e
      rw [nI_eq (by omega) (by omega)] at e2
      omega
    · have e2 : nI j = nI 0 := e
      rw [nI_eq (by omega) (by omega)] at e2
      omega
    · intro post ty bu ke ma th a1 a2 a3 a4 a5 a6 a7 a8 a9 a10 h
      refine br_t (nI_pos' (by omega)) (br_t (nI_le (a := j) (b := 24) (by omega) (by omega)) ?_)
      rw [nI_1]
      exact h
theorem qv_expire (hI : qv_I t b m n K M a1 a2 a3 a4 a7 a8) (a6 : Nat → Int32) {s : Nat} (hs1 : 1 ≤ s) (hs : s ≤ 25) :
    ∃ (n' : Nat) (K' : Nat → Nat) (a1' a2' a3' a7' : Nat → Int32) (g : Nat), qv_I t b m n' K' (fun j => qv_ex s a6 (M j)) a1' a2' a3' a4 a7' a8 ∧ g + qv_cnt a3' 24 = qv_cnt a3 24 ∧
      ∀ (post : Int32 → St1 → Prop) (ty bu ma : Int32) (a5 a9 a10 : Nat → Int32),
        post (nI g) (ty, bu, nI n', ma, nI (qv_cnt a3' 24), a1', a2', a3', a4, a5, a6, a7', a8, a9, a10) →
        wX_expire_22 post (nI s) ty bu (nI n) ma (nI (qv_cnt a3 24)) a1 a2 a3 a4 a5 a6 a7 a8 a9 a10 := by
  obtain ⟨n', K', a1', a2', a3', a7', g, r1, r2, r3, r4, r5⟩ := qv_exp33 hs1 (show s < 2 ^ 31 by omega) a6 M (qv_cnt a3 24) n n K M a1 a2 a3 a7 0 hI.2.1 hI.2.2.1 hI.2.2.2.1 (Nat.le_refl n) (fun _ _ => rfl) (fun j hj => by
    cases e : M j with
    | nil => rw [qv_ex_0 List.take_nil]
    | cons v l =>
      obtain ⟨i, hi, e2⟩ := hI.2.2.1.2 j (by rw [e]; simp)
      exact absurd e2 (hj i hi)) (Nat.zero_add _)
  refine ⟨n', K', a1', a2', a3', a7', g, ⟨hI.1, r1, r2, r3, qv_N_sub hI.2.2.2.2.1 (fun j w hw => qv_ex_sub hw), hI.2.2.2.2.2⟩, r4, ?_⟩
  intro post ty bu ma a5 a9 a10 h
  unfold wX_expire_22
  exact nm_r (qv_dn_s n) ⟨n + 1, r5 _ _ _ _ _ _ _ _ _ h⟩
end
end
section
/-! versionAt, content, the listing -/
def qv_vn (a4 : Nat → Int32) : List Nat → Int32
  | [] => -7
  | v :: _ => a4 v
def qv_end (t b : Nat) : Nat := if t = 0 then 2401 else b + 7 ^ (4 - t)
def qv_nxf (P : Nat → Bool) : Nat → Nat → Option Nat
  | 0, _ => none
  | f + 1, lo => if P lo = true then some lo else qv_nxf P f (lo + 1)
def qv_nx (P : Nat → Bool) (e lo : Nat) : Option Nat := qv_nxf P (e - lo) lo
def qv_fpf (k : Nat) : Nat → Nat → Option Nat
  | 0, _ => none
  | f + 1, p => if k / 7 ^ (3 - p) % 7 = 6 then some p else qv_fpf k f (p + 1)
def qv_op : Option Nat → Int32
  | none => -1
  | some p => nI p
def qv_wh (k : Nat) : Option Nat → Nat
  | none => k
  | some p => k - k % 7 ^ (3 - p)
def qv_be (k : Nat) : Option Nat → Nat
  | none => k + 1
  | some p => k - k % 7 ^ (3 - p) + 7 ^ (3 - p)
def qv_fp (t : Nat) (fo : Bool) (k : Nat) : Option Nat := if fo = true then qv_fpf k (4 - t) t else none
def qv_fe (P : Nat → Bool) (e t : Nat) (fo : Bool) (i : Int32) : Nat → Nat → Nat → Int32
  | 0, c, _ => -1 - nI c
  | s + 1, c, lo => match qv_nx P e lo with
    | none => -1 - nI c
    | some k => if nI c = i then nI (qv_wh k (qv_fp t fo k)) else qv_fe P e t fo i s (c + 1) (qv_be k (qv_fp t fo k))
theorem qv_nx_some {P : Nat → Bool} {k : Nat} : ∀ f lo, qv_nxf P f lo = some k → lo ≤ k ∧ k < lo + f ∧ P k = true ∧ ∀ j, lo ≤ j → j < k → P j = false := by
  intro f
  induction f with
  | zero => intro lo h; exact absurd h (by simp [qv_nxf])
  | succ f ih =>
    intro lo h
    unfold qv_nxf at h
    by_cases g : P lo = true
    · rw [if_pos g] at h
      have e : lo = k := Option.some.inj h
      subst e
      exact ⟨by omega, by omega, g, fun j h1 h2 => absurd h1 (by omega)⟩
    · rw [if_neg g] at h
      obtain ⟨h1, h2, h3, h4⟩ := ih (lo + 1) h
      refine ⟨by omega, by omega, h3, fun j hj1 hj2 => ?_⟩
      by_cases e : j = lo
      · rw [e]
        simpa using g
      · exact h4 j (by omega) hj2
theorem qv_nx_none {P : Nat → Bool} : ∀ f lo, qv_nxf P f lo = none → ∀ j, lo ≤ j → j < lo + f → P j = false := by
  intro f
  induction f with
  | zero => intro lo h j h1 h2; omega
  | succ f ih =>
    intro lo h j h1 h2
    unfold qv_nxf at h
    by_cases g : P lo = true
    · rw [if_pos g] at h
      exact absurd h (by simp)
    · rw [if_neg g] at h
      by_cases e : j = lo
      · rw [e]
        simpa using g
      · exact ih (lo + 1) h j (by omega) (by omega)
theorem qv_P_true {M : Nat → List Nat} {a6 : Nat → Int32} {k : Nat} (h : qv_P M a6 k = true) : ∃ v l, M k = v :: l ∧ a6 v = 0 := by
  cases e : M k with
  | nil =>
    rw [qv_P_nil e] at h
    exact absurd h (by decide)
  | cons v l =>
    rw [qv_P_cons e] at h
    exact ⟨v, l, rfl, of_decide_eq_true h⟩
section
variable {ty bu ke ma th : Int32} {a1 a2 a3 a4 a5 a6 a7 a8 a9 a10 : Nat → Int32} {t b n k m : Nat} {K : Nat → Nat} {M : Nat → List Nat}
theorem qv_va30 {post : Int32 → Prop} {s : Nat} (hs : s < 2 ^ 31) : ∀ (l : List Nat) (x3 : Int32) (c f : Nat), qv_ch a7 l x3 → (∀ w, w ∈ l → w < 24) → c ≤ s → l.length < f → (∀ x, qv_ch a7 (l.drop (s - c)) x → wX_versionAt_53 post x ty bu ke ma th a1 a2 a3 a4 a5 a6 a7 a8 a9 a10) → wX_versionAt_30 post (nI s) ty bu ke ma th a1 a2 a3 a4 a5 a6 a7 a8 a9 a10 f x3 (nI c) := by
  intro l
  induction l with
  | nil =>
    intro x3 c f hc _ h3 h4 h
    obtain ⟨g, e⟩ : ∃ g, f = g + 1 := ⟨f - 1, by simp at h4; omega⟩
    subst e
    have h9 := h x3 (by rw [List.drop_nil]; exact hc)
    have hx : x3 = -1 := hc
    subst hx
    exact pk_le s c (fun _ => h9) (fun _ => br_t (by decide) h9)
  | cons w l ih =>
    intro x3 c f hc h2 h3 h4 h
    obtain ⟨g, e⟩ : ∃ g, f = g + 1 := ⟨f - 1, by simp at h4; omega⟩
    subst e
    simp only [List.length_cons] at h4
    have hw := h2 w (by simp)
    refine pk_le s c (fun z => h x3 ?_) (fun z => ?_)
    · rw [show s - c = 0 by omega]
      exact hc
    · obtain ⟨hx, hc2⟩ := hc
      subst hx
      refine br_f (nI_pos (by omega)) ⟨pk_in w 24 hw, ?_⟩
      rw [nI_clamp (show w < 2 ^ 31 by omega)]
      refine nm_e (nm_r (nI_1 c) (ih _ (c + 1) g hc2 (fun u hu => h2 u (List.mem_cons_of_mem _ hu)) (by omega) (by omega) (fun x hx => h x ?_)))
      rw [show s - c = (s - (c + 1)) + 1 by omega]
      exact hx
theorem qv_versionAt {post : Int32 → Prop} {i : Nat} (hA : qv_A n K a1) (hH : qv_H n K M a2 a7) (hS : qv_S M a3) (hk : k < 2 ^ 31) (hi : i < 2 ^ 31) (hp : post (qv_vn a4 ((M k).drop i))) : wpX_versionAt post (ty, nI k, nI n, ma, th, a1, a2, a3, a4, a5, a6, a7, a8, a9, a10) (nI i) := by
  unfold wpX_versionAt
  have hn := hA.1
  by_cases e : M k = []
  · rw [e, List.drop_nil] at hp
    exact qv_place_no hA hH hk e (br_t (by decide) hp)
  · obtain ⟨p, h1, h2, h3⟩ := qv_place_yes hA hH hk e
    have h4 := (hH.1 p h1).2
    rw [h2] at h4
    have hl := qv_len hS k
    refine h3 _ _ _ _ _ _ _ _ _ _ _ _ _ _ (br_f (nI_pos (by omega)) (br_t (nI_pos' hi) ⟨pk_in p 24 (by omega), ?_⟩))
    rw [nI_clamp (show p < 2 ^ 31 by omega)]
    refine nm_e ⟨25, qv_va30 hi (M k) _ 0 25 h4 (fun w hw => (hS.2.2.1 k w hw).1) (by omega) (by omega) (fun x hx => ?_)⟩
    rw [Nat.sub_zero] at hx
    unfold wX_versionAt_53
    cases e2 : (M k).drop i with
    | nil =>
      rw [e2] at hx hp
      have hx2 : x = -1 := hx
      subst hx2
      exact br_f (by decide) hp
    | cons v l =>
      rw [e2] at hx hp
      obtain ⟨hx1, _⟩ := hx
      subst hx1
      have hv : v < 24 := (hS.2.2.1 k v (List.mem_of_mem_drop (by rw [e2]; simp))).1
      refine br_t (nI_pos' (by omega)) ⟨pk_in v 24 hv, ?_⟩
      rw [nI_clamp (show v < 2 ^ 31 by omega)]
      exact hp
theorem qv_content {post : Int32 → Prop} {v : Nat} (hS : qv_S M a3) (hN : qv_N M a4 m) (hv : v ∈ M k) (h6 : a6 v = 0) (hp : post (a5 v)) : wpX_content post (ty, bu, ke, ma, th, a1, a2, a3, a4, a5, a6, a7, a8, a9, a10) (a4 v) := by
  have hv24 := (hS.2.2.1 k v hv).1
  unfold wpX_content
  refine qv_slot hS hN hv (br_f (nI_pos (by omega)) ⟨pk_in v 24 hv24, ?_⟩)
  rw [nI_clamp (show v < 2 ^ 31 by omega)]
  exact br_t h6 ⟨pk_in v 24 hv24, hp⟩
theorem qv_endL {post : Int32 → Prop} (ht : t ≤ 4) (hp : post (nI (qv_end t b))) : wpX_endOfBuffer post (nI t, nI b, ke, ma, th, a1, a2, a3, a4, a5, a6, a7, a8, a9, a10) := by
  unfold wpX_endOfBuffer
  unfold qv_end at hp
  refine pk_eq t 0 (fun z => ?_) (fun z => ?_)
  · rw [if_pos z] at hp
    exact hp
  · rw [if_neg z] at hp
    obtain ⟨c, e⟩ : ∃ c, t = c + 1 := ⟨t - 1, by omega⟩
    subst e
    rw [nI_pred]
    refine qv_unit (by omega) ?_
    rw [nI_add, show 3 - c = 4 - (c + 1) by omega]
    exact hp
theorem qv_next (hT : qv_T t b) (hA : qv_A n K a1) (hH : qv_H n K M a2 a7) (hS : qv_S M a3) (a6 : Nat → Int32) {j lo : Nat} (hj : j ≤ n) (h1 : ∀ i, i < j → K i < lo) (h2 : ∀ i, j ≤ i → i < n → lo ≤ K i) :
    ∃ r : Int32, ((qv_nx (qv_P M a6) (qv_end t b) lo = none ∧ r = -1) ∨ ∃ i, i < n ∧ qv_nx (qv_P M a6) (qv_end t b) lo = some (K i) ∧ r = nI i) ∧
      ∀ (post : Int32 → Prop) (ma th : Int32) (a4 a5 a8 a9 a10 : Nat → Int32), post r → wpX_nextListed post (nI t, nI b, nI n, ma, th, a1, a2, a3, a4, a5, a6, a7, a8, a9, a10) (nI j) := by
  have hn := hA.1
  have hb := qv_T_b hT
  have ht := hT.1
  have hE : qv_end t b < 5000 := by
    unfold qv_end
    have := hT.2.1
    split <;> omega
  have look : ∀ i, i < n → ∃ v l, M (K i) = v :: l ∧ v < 24 ∧ a2 i = nI v := by
    intro i hi
    have h9 := (hH.1 i hi).2
    cases e3 : M (K i) with
    | nil => exact absurd e3 (hH.1 i hi).1
    | cons u q =>
      rw [e3] at h9
      exact ⟨u, q, rfl, (hS.2.2.1 (K i) u (by rw [e3]; simp)).1, h9.1⟩
  cases e : qv_nx (qv_P M a6) (qv_end t b) lo with
  | none =>
    have hno := qv_nx_none _ _ e
    refine ⟨-1, Or.inl ⟨rfl, rfl⟩, ?_⟩
    intro post ma th a4 a5 a8 a9 a10 hp
    have key : ∀ d c f, n = c + d → j ≤ c → d < f → wX_nextListed_7 post (nI (qv_end t b)) (nI t) (nI b) (nI n) ma th a1 a2 a3 a4 a5 a6 a7 a8 a9 a10 f (nI c) := by
      intro d
      induction d with
      | zero =>
        intro c f hc hjc hf
        obtain ⟨g, eg⟩ : ∃ g, f = g + 1 := ⟨f - 1, by omega⟩
        subst eg
        exact pk_le n c (fun _ => hp) (fun z => absurd z (by omega))
      | succ d ih =>
        intro c f hc hjc hf
        obtain ⟨g, eg⟩ : ∃ g, f = g + 1 := ⟨f - 1, by omega⟩
        subst eg
        obtain ⟨v, l, e1, e2, e3⟩ := look c (by omega)
        have hKc := hA.2.1 c (by omega)
        refine pk_le n c (fun _ => hp) (fun z => ⟨pk_in c 24 (by omega), ?_⟩)
        rw [nI_clamp (show c < 2 ^ 31 by omega), hKc.1]
        refine pk_le (qv_end t b) (K c) (fun _ => hp) (fun z2 => ⟨pk_in c 24 (by omega), ?_⟩)
        rw [e3]
        refine ⟨pk_in v 24 e2, ?_⟩
        rw [nI_clamp (show v < 2 ^ 31 by omega)]
        have h9 := hno (K c) (h2 c hjc (by omega)) (by omega)
        rw [qv_P_cons e1] at h9
        exact br_f (of_decide_eq_false h9) (nm_r (nI_1 c) (ih (c + 1) g (by omega) (by omega) (by omega)))
    unfold wpX_nextListed
    exact qv_endL ht ⟨n - j + 1, key (n - j) j (n - j + 1) (by omega) (by omega) (by omega)⟩
  | some x =>
    obtain ⟨g1, g2, g3, g4⟩ := qv_nx_some _ _ e
    obtain ⟨w, q, e5, e6⟩ := qv_P_true g3
    obtain ⟨i, hi, ei⟩ := hH.2 x (by rw [e5]; simp)
    subst ei
    have hji : j ≤ i := by
      rcases Nat.lt_or_ge i j with z | z
      · have := h1 i z
        omega
      · exact z
    refine ⟨nI i, Or.inr ⟨i, hi, rfl, rfl⟩, ?_⟩
    intro post ma th a4 a5 a8 a9 a10 hp
    have key : ∀ d c f, i = c + d → j ≤ c → d < f → wX_nextListed_7 post (nI (qv_end t b)) (nI t) (nI b) (nI n) ma th a1 a2 a3 a4 a5 a6 a7 a8 a9 a10 f (nI c) := by
      intro d
      induction d with
      | zero =>
        intro c f hc hjc hf
        obtain ⟨g, eg⟩ : ∃ g, f = g + 1 := ⟨f - 1, by omega⟩
        subst eg
        have eci : i = c := by omega
        subst eci
        obtain ⟨v, l, e1, e2, e3⟩ := look i hi
        have hKc := hA.2.1 i hi
        refine pk_le n i (fun z => absurd z (by omega)) (fun z => ⟨pk_in i 24 (by omega), ?_⟩)
        rw [nI_clamp (show i < 2 ^ 31 by omega), hKc.1]
        refine pk_le (qv_end t b) (K i) (fun z => absurd z (by omega)) (fun z2 => ⟨pk_in i 24 (by omega), ?_⟩)
        rw [e3]
        refine ⟨pk_in v 24 e2, ?_⟩
        rw [nI_clamp (show v < 2 ^ 31 by omega)]
        rw [e1] at e5
        have e8 : v = w := (List.cons.inj e5).1
        subst e8
        exact br_t e6 hp
      | succ d ih =>
        intro c f hc hjc hf
        obtain ⟨g, eg⟩ : ∃ g, f = g + 1 := ⟨f - 1, by omega⟩
        subst eg
        obtain ⟨v, l, e1, e2, e3⟩ := look c (by omega)
        have hKc := hA.2.1 c (by omega)
        have hlt := hA.2.2 c i (by omega) hi
        refine pk_le n c (fun z => absurd z (by omega)) (fun z => ⟨pk_in c 24 (by omega), ?_⟩)
        rw [nI_clamp (show c < 2 ^ 31 by omega), hKc.1]
        refine pk_le (qv_end t b) (K c) (fun z => absurd z (by omega)) (fun z2 => ⟨pk_in c 24 (by omega), ?_⟩)
        rw [e3]
        refine ⟨pk_in v 24 e2, ?_⟩
        rw [nI_clamp (show v < 2 ^ 31 by omega)]
        have h9 := g4 (K c) (h2 c hjc (by omega)) hlt
        rw [qv_P_cons e1] at h9
        exact br_f (of_decide_eq_false h9) (nm_r (nI_1 c) (ih (c + 1) g (by omega) (by omega) (by omega)))
    unfold wpX_nextListed
    exact qv_endL ht ⟨i - j + 1, key (i - j) j (i - j + 1) (by omega) (by omega) (by omega)⟩
theorem qv_digit {post : Int32 → Prop} {p : Nat} (hp : p < 4) (hk : k < 2 ^ 31) (h : post (nI (k / 7 ^ (3 - p) % 7))) : wpX_digitAt post () (nI k) (nI p) := by
  unfold wpX_digitAt
  have hpos : 0 < 7 ^ (3 - p) := Nat.pow_pos (by decide)
  have hle : 7 ^ (3 - p) ≤ 7 ^ 3 := Nat.pow_le_pow_right (by decide) (by omega)
  have hle2 : k / 7 ^ (3 - p) ≤ k := Nat.div_le_self _ _
  refine qv_unit hp ⟨nI_ne0 hpos (by omega), by decide, ?_⟩
  rw [pk_div hk hpos (by omega)]
  have e := pk_rem (a := k / 7 ^ (3 - p)) (d := 7) (by omega) (by decide) (by decide)
  rw [← e] at h
  exact h
theorem qv_fp_lt : ∀ f p q, p + f = 4 → qv_fpf k f p = some q → q < 4 := by
  intro f
  induction f with
  | zero => intro p q _ h; exact absurd h (by simp [qv_fpf])
  | succ f ih =>
    intro p q hf h
    unfold qv_fpf at h
    by_cases g : k / 7 ^ (3 - p) % 7 = 6
    · rw [if_pos g] at h
      have := Option.some.inj h
      omega
    · rw [if_neg g] at h
      exact ih (p + 1) q (by omega) h
theorem qv_folder {post : Int32 → Prop} (ht : t ≤ 4) (hk : k < 2 ^ 31) (hp : post (qv_op (qv_fpf k (4 - t) t))) : wpX_folderPlace post (nI t, bu, ke, ma, th, a1, a2, a3, a4, a5, a6, a7, a8, a9, a10) (nI k) := by
  have key : ∀ f p, p + f = 4 → post (qv_op (qv_fpf k f p)) → wX_folderPlace_5 post (nI k) (nI t) bu ke ma th a1 a2 a3 a4 a5 a6 a7 a8 a9 a10 (f + 1) (nI p) := by
    intro f
    induction f with
    | zero =>
      intro p hf h
      have e : p = 4 := by omega
      subst e
      exact pk_le 4 4 (fun _ => h) (fun z => absurd z (by omega))
    | succ f ih =>
      intro p hf h
      refine pk_le 4 p (fun z => absurd z (by omega)) (fun _ => qv_digit (by omega) hk ?_)
      have hlt : k / 7 ^ (3 - p) % 7 < 7 := Nat.mod_lt _ (by decide)
      unfold qv_fpf at h
      refine pk_eq (k / 7 ^ (3 - p) % 7) 6 (fun z => ?_) (fun z => nm_r (nI_1 p) ?_)
      · rw [if_pos z] at h
        exact h
      · rw [if_neg z] at h
        exact ih (p + 1) (by omega) h
  exact ⟨4 - t + 1, key (4 - t) t (by omega) hp⟩
end
end
section
/-! findEntry, list, entry -/
def qv_dg (k r : Int32) : Int32 := (k / r) - (k / r) / 7 * 7
def qv_code (k : Int32) : Int32 := (((0 * 7 + qv_dg k 1) * 7 + qv_dg k 7) * 7 + qv_dg k 49) * 7 + qv_dg k 343
def qv_en (r : Int32) : Int32 := if 0 ≤ r then qv_code r else -7
section
variable {ty bu ke ma th : Int32} {a1 a2 a3 a4 a5 a6 a7 a8 a9 a10 : Nat → Int32} {t b n k m : Nat} {K : Nat → Nat} {M : Nat → List Nat}
theorem qv_fe92 {post : Int32 → Prop} {J : Int32 → Int32 → Int32 → Prop} {fi x2 : Int32} {c s i : Nat} {fo : Bool} (hT : qv_T t b) (hA : qv_A n K a1) (hH : qv_H n K M a2 a7) (hS : qv_S M a3) (hs : s < 24) (hi : i < n) (o : Option Nat) (ho : ∀ p, o = some p → p < 4)
    (hJ : ∀ lo r, ((qv_nx (qv_P M a6) (qv_end t b) lo = none ∧ r = -1) ∨ ∃ i, i < n ∧ qv_nx (qv_P M a6) (qv_end t b) lo = some (K i) ∧ r = nI i) → post (qv_fe (qv_P M a6) (qv_end t b) t fo fi s (c + 1) lo) → J (nI (c + 1)) r (nI (24 - s)))
    (h1 : nI c = fi → post (nI (qv_wh (K i) o))) (h2 : ¬ nI c = fi → post (qv_fe (qv_P M a6) (qv_end t b) t fo fi s (c + 1) (qv_be (K i) o))) :
    wX_findEntry_92 post J fi x2 (nI c) (nI i) (nI (23 - s)) (qv_op o) (nI (qv_wh (K i) o)) (nI t) (nI b) (nI n) ma th a1 a2 a3 a4 a5 a6 a7 a8 a9 a10 := by
  have hKi := hA.2.1 i hi
  unfold wX_findEntry_92
  refine br_c h1 (fun g => nm_r (nI_1 c) (nm_r (nI_1 i) ?_))
  have h3 := h2 g
  have e24 : nI (23 - s) + 1 = nI (24 - s) := by
    rw [nI_1, show 23 - s + 1 = 24 - s by omega]
  cases o with
  | none =>
    refine br_t (by decide) ?_
    obtain ⟨r, hr, hw⟩ := qv_next hT hA hH hS a6 (j := i + 1) (lo := K i + 1) (by omega) (fun q hq => by
      by_cases e : q = i
      · rw [e]
        omega
      · have := hA.2.2 q i (by omega) hi
        omega) (fun q hq hqn => by
      have := hA.2.2 i q (by omega) hqn
      omega)
    unfold wX_findEntry_134
    exact hw _ _ _ _ _ _ _ _ (nm_r e24 (hJ _ r hr h3))
  | some p =>
    have hp4 := ho p rfl
    refine br_f (nI_pos (show p < 2 ^ 31 by omega)) (qv_unit hp4 (nm_r (nI_add _ _) ?_))
    have hle : 7 ^ (3 - p) ≤ 7 ^ 3 := Nat.pow_le_pow_right (by decide) (by omega)
    have hwh : qv_wh (K i) (some p) + 7 ^ (3 - p) = qv_be (K i) (some p) := rfl
    rw [hwh]
    have hbe : qv_be (K i) (some p) < 2 ^ 31 := by
      show K i - K i % 7 ^ (3 - p) + 7 ^ (3 - p) < 2 ^ 31
      omega
    obtain ⟨q, q1, q2, q3, q4⟩ := qv_seek (k := qv_be (K i) (some p)) hA hbe
    refine q4 _ _ _ _ _ _ _ _ _ _ _ _ _ _ ?_
    obtain ⟨r, hr, hw⟩ := qv_next hT hA hH hS a6 q1 q2 q3
    unfold wX_findEntry_134
    exact hw _ _ _ _ _ _ _ _ (nm_r e24 (hJ _ r hr h3))
theorem qv_fe23 {post : Int32 → Prop} {fi : Int32} {fo : Bool} (hT : qv_T t b) (hA : qv_A n K a1) (hH : qv_H n K M a2 a7) (hS : qv_S M a3) : ∀ (s c lo : Nat) (r : Int32) (f : Nat), s ≤ 24 → s < f → ((qv_nx (qv_P M a6) (qv_end t b) lo = none ∧ r = -1) ∨ ∃ i, i < n ∧ qv_nx (qv_P M a6) (qv_end t b) lo = some (K i) ∧ r = nI i) → post (qv_fe (qv_P M a6) (qv_end t b) t fo fi s c lo) → wX_findEntry_23 post fi (qv_bi fo) (nI t) (nI b) (nI n) ma th a1 a2 a3 a4 a5 a6 a7 a8 a9 a10 f (nI c) r (nI (24 - s)) := by
  have hn := hA.1
  intro s
  induction s with
  | zero =>
    intro c lo r f _ hf hr hp
    obtain ⟨g, eg⟩ : ∃ g, f = g + 1 := ⟨f - 1, by omega⟩
    subst eg
    exact pk_le 24 (24 - 0) (fun _ => hp) (fun z => absurd z (by omega))
  | succ s ih =>
    intro c lo r f hs hf hr hp
    obtain ⟨g, eg⟩ : ∃ g, f = g + 1 := ⟨f - 1, by omega⟩
    subst eg
    rw [show 24 - (s + 1) = 23 - s by omega]
    refine pk_le 24 (23 - s) (fun z => absurd z (by omega)) (fun _ => ?_)
    unfold qv_fe at hp
    rcases hr with ⟨e1, e2⟩ | ⟨i, hi, e1, e2⟩
    · subst e2
      rw [e1] at hp
      exact br_t (by decide) hp
    · subst e2
      rw [e1] at hp
      dsimp only at hp
      have hKi := hA.2.1 i hi
      refine br_f (nI_pos (by omega)) ?_
      have h1 : nI c = fi → post (nI (qv_wh (K i) (qv_fp t fo (K i)))) := fun z => by
        rw [if_pos z] at hp
        exact hp
      have h2 : ¬ nI c = fi → post (qv_fe (qv_P M a6) (qv_end t b) t fo fi s (c + 1) (qv_be (K i) (qv_fp t fo (K i)))) := fun z => by
        rw [if_neg z] at hp
        exact hp
      have hlt : ∀ p, qv_fp t fo (K i) = some p → p < 4 := by
        intro p hp9
        unfold qv_fp at hp9
        by_cases z : fo = true
        · rw [if_pos z] at hp9
          exact qv_fp_lt (4 - t) t p (by have := hT.1; omega) hp9
        · rw [if_neg z] at hp9
          exact absurd hp9 (by simp)
      have h92 := fun x2 : Int32 => qv_fe92 (post := post) (J := wX_findEntry_23 post fi (qv_bi fo) (nI t) (nI b) (nI n) ma th a1 a2 a3 a4 a5 a6 a7 a8 a9 a10 g) (ma := ma) (th := th) (a4 := a4) (a5 := a5) (a8 := a8) (a9 := a9) (a10 := a10) (x2 := x2) hT hA hH hS (show s < 24 by omega) hi (qv_fp t fo (K i)) hlt (fun lo' r' hr' hp' => ih (c + 1) lo' r' g (by omega) (by omega) hr' hp') h1 h2
      -- the folder's place, or none
      have h54 : ∀ x2 : Int32, wX_findEntry_54 post (wX_findEntry_23 post fi (qv_bi fo) (nI t) (nI b) (nI n) ma th a1 a2 a3 a4 a5 a6 a7 a8 a9 a10 g) fi x2 (nI c) (nI i) (nI (23 - s)) (qv_op (qv_fp t fo (K i))) (nI t) (nI b) (nI n) ma th a1 a2 a3 a4 a5 a6 a7 a8 a9 a10 := by
        intro x2
        have h9 := h92 x2
        unfold wX_findEntry_54
        rw [nI_clamp (show i < 2 ^ 31 by omega), hKi.1]
        cases eo : qv_fp t fo (K i) with
        | none =>
          rw [eo] at h9
          exact br_f (by decide) ⟨pk_in i 24 (by omega), h9⟩
        | some p =>
          have hp4 := hlt p eo
          rw [eo] at h9
          have hpos : 0 < 7 ^ (3 - p) := Nat.pow_pos (by decide)
          have hle : 7 ^ (3 - p) ≤ 7 ^ 3 := Nat.pow_le_pow_right (by decide) (by omega)
          refine br_t (nI_pos' (show p < 2 ^ 31 by omega)) ⟨pk_in i 24 (by omega), pk_in i 24 (by omega), qv_unit hp4 ⟨nI_ne0 hpos (by omega), ?_⟩⟩
          rw [pk_rem (by omega) hpos (by omega), pk_sub (Nat.mod_le _ _)]
          exact h9
      cases fo with
      | false => exact br_t rfl (h54 _)
      | true =>
        refine br_f (by decide) ⟨pk_in i 24 (by omega), ?_⟩
        rw [nI_clamp (show i < 2 ^ 31 by omega), hKi.1]
        exact qv_folder hT.1 (by omega) (h54 _)
theorem qv_findEntry {post : Int32 → Prop} {fi : Int32} {fo : Bool} (hT : qv_T t b) (hA : qv_A n K a1) (hH : qv_H n K M a2 a7) (hS : qv_S M a3) (hp : post (qv_fe (qv_P M a6) (qv_end t b) t fo fi 24 0 b)) : wpX_findEntry post (nI t, nI b, nI n, ma, th, a1, a2, a3, a4, a5, a6, a7, a8, a9, a10) fi (qv_bi fo) := by
  have hb := qv_T_b hT
  obtain ⟨q, q1, q2, q3, q4⟩ := qv_seek (k := b) hA (by omega)
  unfold wpX_findEntry
  refine q4 _ _ _ _ _ _ _ _ _ _ _ _ _ _ ?_
  obtain ⟨r, hr, hw⟩ := qv_next hT hA hH hS a6 q1 q2 q3
  exact hw _ _ _ _ _ _ _ _ ⟨25, qv_fe23 hT hA hH hS 24 0 b r 25 (by omega) (by omega) hr hp⟩
theorem qv_list {post : Int32 → Prop} {fo : Bool} (hT : qv_T t b) (hA : qv_A n K a1) (hH : qv_H n K M a2 a7) (hS : qv_S M a3) (hp : post (-1 - qv_fe (qv_P M a6) (qv_end t b) t fo (-1) 24 0 b)) : wpX_list post (nI t, nI b, nI n, ma, th, a1, a2, a3, a4, a5, a6, a7, a8, a9, a10) (qv_bi fo) := by
  unfold wpX_list
  exact qv_findEntry hT hA hH hS hp
theorem qv_code27 {post : Int32 → Prop} {k : Int32} (h : post (qv_code k)) : wX_entry_27 post k ty bu ke ma th a1 a2 a3 a4 a5 a6 a7 a8 a9 a10 5 0 3 := by
  have dg : ∀ (p : Nat) (hp : p < 4) (ps : Int32 → Prop), ps (qv_dg k (nI (7 ^ (3 - p)))) → wpX_digitAt ps () k (nI p) := by
    intro p hp ps hh
    unfold wpX_digitAt
    have hpos : 0 < 7 ^ (3 - p) := Nat.pow_pos (by decide)
    have hle : 7 ^ (3 - p) ≤ 7 ^ 3 := Nat.pow_le_pow_right (by decide) (by omega)
    exact qv_unit hp ⟨nI_ne0 hpos (by omega), by decide, hh⟩
  refine br_f (by decide) (dg 3 (by omega) _ (nm_e (nm_r (e' := nI 2) (by decide) ?_)))
  refine br_f (by decide) (dg 2 (by omega) _ (nm_e (nm_r (e' := nI 1) (by decide) ?_)))
  refine br_f (by decide) (dg 1 (by omega) _ (nm_e (nm_r (e' := nI 0) (by decide) ?_)))
  refine br_f (by decide) (dg 0 (by omega) _ (nm_e (nm_r (e' := -1) (by decide) ?_)))
  exact br_t (by decide) h
theorem qv_entry {post : Int32 → Prop} {i : Nat} {fo : Bool} (hT : qv_T t b) (hA : qv_A n K a1) (hH : qv_H n K M a2 a7) (hS : qv_S M a3) (hi : i < 2 ^ 31) (hp : post (qv_en (qv_fe (qv_P M a6) (qv_end t b) t fo (nI i) 24 0 b))) : wpX_entry post (nI t, nI b, nI n, ma, th, a1, a2, a3, a4, a5, a6, a7, a8, a9, a10) (nI i) (qv_bi fo) := by
  unfold wpX_entry
  refine br_t (nI_pos' hi) (qv_findEntry hT hA hH hS ?_)
  unfold qv_en at hp
  refine br_c (fun z => ?_) (fun z => ?_)
  · rw [if_pos z] at hp
    exact ⟨5, qv_code27 hp⟩
  · rw [if_neg z] at hp
    exact hp
end
/-! the number of present keys -/
def qv_cn (P : Nat → Bool) : Nat → Nat → Nat
  | 0, _ => 0
  | f + 1, lo => (if P lo = true then 1 else 0) + qv_cn P f (lo + 1)
theorem qv_cn_congr {P Q : Nat → Bool} : ∀ f lo, (∀ j, lo ≤ j → j < lo + f → P j = Q j) → qv_cn P f lo = qv_cn Q f lo := by
  intro f
  induction f with
  | zero => intro lo _; rfl
  | succ f ih =>
    intro lo h
    show (if P lo = true then 1 else 0) + qv_cn P f (lo + 1) = (if Q lo = true then 1 else 0) + qv_cn Q f (lo + 1)
    rw [ih (lo + 1) (fun j h1 h2 => h j (by omega) (by omega)), h lo (by omega) (by omega)]
theorem qv_cn_none {P : Nat → Bool} : ∀ f lo, qv_nxf P f lo = none → qv_cn P f lo = 0 := by
  intro f
  induction f with
  | zero => intro lo _; rfl
  | succ f ih =>
    intro lo h
    unfold qv_nxf at h
    show (if P lo = true then 1 else 0) + qv_cn P f (lo + 1) = 0
    by_cases g : P lo = true
    · rw [if_pos g] at h
      exact absurd h (by simp)
    · rw [if_neg g] at h
      rw [if_neg g, ih _ h]
theorem qv_cn_some {P : Nat → Bool} {k : Nat} : ∀ f lo, qv_nxf P f lo = some k → qv_cn P f lo = 1 + qv_cn P (lo + f - (k + 1)) (k + 1) := by
  intro f
  induction f with
  | zero => intro lo h; exact absurd h (by simp [qv_nxf])
  | succ f ih =>
    intro lo h
    unfold qv_nxf at h
    show (if P lo = true then 1 else 0) + qv_cn P f (lo + 1) = _
    by_cases g : P lo = true
    · rw [if_pos g] at h
      have e : lo = k := Option.some.inj h
      subst e
      rw [if_pos g, show lo + (f + 1) - (lo + 1) = f by omega]
    · rw [if_neg g] at h
      rw [if_neg g, ih _ h, show lo + 1 + f - (k + 1) = lo + (f + 1) - (k + 1) by omega]
      omega
theorem qv_m1 {c : Nat} (h : c < 2 ^ 31) : ¬ nI c = -1 := fun e => nI_pos h (by rw [e]; decide)
theorem qv_fe_cn {P : Nat → Bool} {e t : Nat} : ∀ s c lo, qv_cn P (e - lo) lo ≤ s → c + s < 2 ^ 31 → qv_fe P e t false (-1) s c lo = -1 - nI (c + qv_cn P (e - lo) lo) := by
  intro s
  induction s with
  | zero =>
    intro c lo h _
    rw [show qv_cn P (e - lo) lo = 0 by omega]
    rfl
  | succ s ih =>
    intro c lo h hc
    unfold qv_fe
    cases g : qv_nx P e lo with
    | none => rw [qv_cn_none _ _ g]; rfl
    | some k =>
      have h1 := qv_nx_some _ _ g
      have h2 := qv_cn_some _ _ g
      rw [show lo + (e - lo) - (k + 1) = e - (k + 1) by omega] at h2
      dsimp only
      rw [if_neg (qv_m1 (by omega)), show qv_be k (qv_fp t false k) = k + 1 from rfl, ih (c + 1) (k + 1) (by omega) (by omega), h2, show c + 1 + qv_cn P (e - (k + 1)) (k + 1) = c + (1 + qv_cn P (e - (k + 1)) (k + 1)) by omega]
theorem qv_cn_le2 {n : Nat} {K : Nat → Nat} {M : Nat → List Nat} {a1 a2 a6 a7 : Nat → Int32} (hA : qv_A n K a1) (hH : qv_H n K M a2 a7) : ∀ f lo i, i ≤ n → (∀ j, j < i → K j < lo) → qv_cn (qv_P M a6) f lo ≤ n - i := by
  intro f
  induction f with
  | zero => intro lo i _ _; exact Nat.zero_le _
  | succ f ih =>
    intro lo i hi h1
    show (if qv_P M a6 lo = true then 1 else 0) + qv_cn (qv_P M a6) f (lo + 1) ≤ n - i
    by_cases g : qv_P M a6 lo = true
    · rw [if_pos g]
      obtain ⟨v, l, e1, _⟩ := qv_P_true g
      obtain ⟨p, hp, ep⟩ := hH.2 lo (by rw [e1]; simp)
      have hip : i ≤ p := by
        rcases Nat.lt_or_ge p i with z | z
        · have := h1 p z
          omega
        · exact z
      have h2 := ih (lo + 1) (p + 1) (by omega) (fun j hj => by
        by_cases e : j = p
        · rw [e]
          omega
        · have := hA.2.2 j p (by omega) hp
          omega)
      omega
    · rw [if_neg g]
      have h2 := ih (lo + 1) i hi (fun j hj => by have := h1 j hj; omega)
      omega
end
section
/-! one call of the script -/
def qv_G (m : Nat) (u : St1) : Prop := ∃ (t b m' n : Nat) (K : Nat → Nat) (M : Nat → List Nat) (a1 a2 a3 a4 a5 a6 a7 a8 a9 a10 : Nat → Int32), u = (nI t, nI b, nI n, nI m', nI (qv_cnt a3 24), a1, a2, a3, a4, a5, a6, a7, a8, a9, a10) ∧ qv_I t b m' n K M a1 a2 a3 a4 a7 a8 ∧ m' ≤ m
def qv_E (m : Nat) (W : (Int32 → St1 → Prop) → Prop) : Prop := ∃ (r : Int32) (u : St1), qv_G m u ∧ ∀ post, post r u → W post
theorem qv_mkG {t b m' n m : Nat} {K : Nat → Nat} {M : Nat → List Nat} {a1 a2 a3 a4 a7 a8 : Nat → Int32} (hI : qv_I t b m' n K M a1 a2 a3 a4 a7 a8) (hm : m' ≤ m) (a5 a6 a9 a10 : Nat → Int32) : qv_G m (nI t, nI b, nI n, nI m', nI (qv_cnt a3 24), a1, a2, a3, a4, a5, a6, a7, a8, a9, a10) := ⟨t, b, m', n, K, M, a1, a2, a3, a4, a5, a6, a7, a8, a9, a10, rfl, hI, hm⟩
theorem qv_E_type {m : Nat} {u : St1} (hG : qv_G m u) (x : Int32) : qv_E (m + 1) (fun post => wpX_type post u x) := by
  obtain ⟨t, b, m', n, K, M, a1, a2, a3, a4, a5, a6, a7, a8, a9, a10, e, hI, hm⟩ := hG
  subst e
  obtain ⟨t', b', r, hT, _, hw⟩ := qv_typeL hI.1 x
  have hI' : qv_I t' b' m' n K M a1 a2 a3 a4 a7 a8 := ⟨hT, hI.2⟩
  exact ⟨r, _, qv_mkG hI' (by omega) a5 a6 a9 a10, fun post h => hw _ _ _ _ _ _ _ _ _ _ _ _ _ _ h⟩
theorem qv_T_0 : qv_T 0 0 := ⟨by decide, by decide, fun h => absurd h (by omega)⟩
theorem qv_E_erase {m : Nat} {u : St1} (hG : qv_G m u) : qv_E (m + 1) (fun post => wpX_erase (fun u => match u with | (c1, c2, c3, c4, c5, d1, d2, d3, d4, d5, d6, d7, d8, d9, d10) => post 0 (c1, c2, c3, c4, c5, d1, d2, d3, d4, d5, d6, d7, d8, d9, d10)) u) := by
  obtain ⟨t, b, m', n, K, M, a1, a2, a3, a4, a5, a6, a7, a8, a9, a10, e, hI, hm⟩ := hG
  subst e
  have hI' : qv_I 0 0 m' n K M a1 a2 a3 a4 a7 a8 := ⟨qv_T_0, hI.2⟩
  exact ⟨0, _, qv_mkG hI' (by omega) a5 a6 a9 a10, fun post h => h⟩
theorem qv_E_put {m : Nat} {u : St1} (hG : qv_G m u) (h31 : m < 2 ^ 30) (x : Int32) : qv_E (m + 1) (fun post => wpX_put post u x) := by
  obtain ⟨t, b, m', n, K, M, a1, a2, a3, a4, a5, a6, a7, a8, a9, a10, e, hI, hm⟩ := hG
  subst e
  by_cases ht : t = 0
  · subst ht
    exact ⟨-3, _, qv_mkG hI (by omega) a5 a6 a9 a10, fun post h => qv_put_0 h⟩
  · by_cases hc : qv_cnt a3 24 < 24
    · obtain ⟨v, n', K', a1', a2', a7', hv, h0, hI', hw⟩ := qv_put_ok hI (by omega) (by omega) hc
      exact ⟨nI m', _, qv_mkG hI' (by omega) (upd a5 v x) (upd a6 v 0) a9 a10, fun post h => hw _ _ _ _ _ _ h⟩
    · exact ⟨-2, _, qv_mkG hI (by omega) a5 a6 a9 a10, fun post h => qv_put_full (by omega) hI.1.1 hc h⟩
theorem qv_E_remove {m : Nat} {u : St1} (hG : qv_G m u) (h31 : m < 2 ^ 30) : qv_E (m + 1) (fun post => wpX_remove post u) := by
  obtain ⟨t, b, m', n, K, M, a1, a2, a3, a4, a5, a6, a7, a8, a9, a10, e, hI, hm⟩ := hG
  subst e
  by_cases ht : t = 0
  · exact ⟨-3, _, qv_mkG hI (by omega) a5 a6 a9 a10, fun post h => qv_remove_no hI (Or.inl ht) h⟩
  · cases hP : qv_P M a6 b with
    | false => exact ⟨-3, _, qv_mkG hI (by omega) a5 a6 a9 a10, fun post h => qv_remove_no hI (Or.inr hP) h⟩
    | true =>
      by_cases hc : qv_cnt a3 24 < 24
      · obtain ⟨v, n', K', a1', a2', a7', hv, h0, hI', hw⟩ := qv_remove_ok hI (by omega) (by omega) hP hc
        exact ⟨nI m', _, qv_mkG hI' (by omega) (upd a5 v 0) (upd a6 v 1) a9 a10, fun post h => hw _ _ _ _ h⟩
      · exact ⟨-2, _, qv_mkG hI (by omega) a5 a6 a9 a10, fun post h => qv_remove_full hI (by omega) hP hc h⟩
theorem qv_E_destroy {m : Nat} {u : St1} (hG : qv_G m u) (x : Int32) : qv_E (m + 1) (fun post => wpX_destroy post u x) := by
  obtain ⟨t, b, m', n, K, M, a1, a2, a3, a4, a5, a6, a7, a8, a9, a10, e, hI, hm⟩ := hG
  subst e
  by_cases hx : ∃ v, v < 24 ∧ a3 v ≠ 0 ∧ a4 v = x
  · obtain ⟨v, h1, h2, h3⟩ := hx
    subst h3
    obtain ⟨k, hk⟩ := hI.2.2.2.1.2.2.2 v h1 h2
    obtain ⟨n', K', a1', a2', a7', hI', hw⟩ := qv_destroy hI hk
    exact ⟨_, _, qv_mkG hI' (by omega) a5 a6 a9 a10, fun post h => hw _ _ _ _ _ _ _ _ h⟩
  · exact ⟨-4, _, qv_mkG hI (by omega) a5 a6 a9 a10, fun post h => qv_destroy_no (fun v h1 h2 h3 => hx ⟨v, h1, h2, h3⟩) h⟩
theorem qv_E_begin {m : Nat} {u : St1} (hG : qv_G m u) : qv_E (m + 1) (fun post => wpX_begin post u) := by
  obtain ⟨t, b, m', n, K, M, a1, a2, a3, a4, a5, a6, a7, a8, a9, a10, e, hI, hm⟩ := hG
  subst e
  by_cases ht : t = 0
  · subst ht
    exact ⟨-3, _, qv_mkG hI (by omega) a5 a6 a9 a10, fun post h => qv_begin_0 h⟩
  · rcases qv_begin a8 with ⟨_, hw⟩ | ⟨w, _, _, hw⟩
    · exact ⟨-2, _, qv_mkG hI (by omega) a5 a6 a9 a10, fun post h => hw _ _ _ _ _ _ _ _ _ _ _ _ _ _ _ (by omega) hI.1.1 h⟩
    · have hI' : qv_I t b m' n K M a1 a2 a3 a4 a7 (upd a8 w (nI b)) := ⟨hI.1, hI.2.1, hI.2.2.1, hI.2.2.2.1, hI.2.2.2.2.1, qv_U_upd hI.2.2.2.2.2 (qv_T_b hI.1)⟩
      exact ⟨nI w, _, qv_mkG hI' (by omega) a5 a6 (upd a9 w 0) a10, fun post h => hw _ _ _ _ _ _ _ _ _ _ _ _ _ _ _ (by omega) hI.1.1 h⟩
theorem qv_E_part {m : Nat} {u : St1} (hG : qv_G m u) (x y z : Int32) : qv_E (m + 1) (fun post => wpX_part post u x y z) := by
  obtain ⟨t, b, m', n, K, M, a1, a2, a3, a4, a5, a6, a7, a8, a9, a10, e, hI, hm⟩ := hG
  subst e
  by_cases hx : ∃ u, u < 3 ∧ x = nI u ∧ a8 u ≠ 0
  · obtain ⟨w, hw, e, h8⟩ := hx
    subst e
    by_cases hy : ∃ j : Nat, j < 8 ∧ y = nI j
    · obtain ⟨j, hj, e⟩ := hy
      subst e
      exact ⟨_, _, qv_mkG hI (by omega) a5 a6 _ _, fun post h => qv_part hw h8 hj h⟩
    · exact ⟨-6, _, qv_mkG hI (by omega) a5 a6 a9 a10, fun post h => qv_part_bad hw h8 hy h⟩
  · exact ⟨-5, _, qv_mkG hI (by omega) a5 a6 a9 a10, fun post h => qv_part_no hx h⟩
theorem qv_E_abort {m : Nat} {u : St1} (hG : qv_G m u) (x : Int32) : qv_E (m + 1) (fun post => wpX_abort post u x) := by
  obtain ⟨t, b, m', n, K, M, a1, a2, a3, a4, a5, a6, a7, a8, a9, a10, e, hI, hm⟩ := hG
  subst e
  by_cases hx : ∃ u, u < 3 ∧ x = nI u ∧ a8 u ≠ 0
  · obtain ⟨w, hw, e, h8⟩ := hx
    subst e
    have hI' : qv_I t b m' n K M a1 a2 a3 a4 a7 (upd a8 w 0) := ⟨hI.1, hI.2.1, hI.2.2.1, hI.2.2.2.1, hI.2.2.2.2.1, qv_U_upd (k := 0) hI.2.2.2.2.2 (by omega)⟩
    exact ⟨_, _, qv_mkG hI' (by omega) a5 a6 a9 a10, fun post h => qv_abort hw h8 h⟩
  · exact ⟨-5, _, qv_mkG hI (by omega) a5 a6 a9 a10, fun post h => qv_abort_no hx h⟩
theorem qv_E_complete {m : Nat} {u : St1} (hG : qv_G m u) (h31 : m < 2 ^ 30) (x y : Int32) : qv_E (m + 1) (fun post => wpX_complete post u x y) := by
  obtain ⟨t, b, m', n, K, M, a1, a2, a3, a4, a5, a6, a7, a8, a9, a10, e, hI, hm⟩ := hG
  subst e
  by_cases hx : ∃ u, u < 3 ∧ x = nI u ∧ a8 u ≠ 0
  · obtain ⟨w, hw, e, h8⟩ := hx
    subst e
    by_cases h1 : y &&& 255 = 0
    · exact ⟨-6, _, qv_mkG hI (by omega) a5 a6 a9 a10, fun post h => qv_comp_bad hw h8 (Or.inl h1) h⟩
    · by_cases h2 : ((y &&& 255) &&& (a9 w ^^^ (-1))) = 0
      · by_cases hc : qv_cnt a3 24 < 24
        · obtain ⟨k, hk, ek⟩ := hI.2.2.2.2.2 w hw
          have hk0 : 0 < k := by
            rcases Nat.eq_zero_or_pos k with z | z
            · subst z
              exact absurd ek h8
            · exact z
          obtain ⟨v, n', K', a1', a2', a7', hv, h0, hI', hq⟩ := qv_comp_ok hI (by omega) hw ek hk0 hk hc
          exact ⟨nI m', _, qv_mkG hI' (by omega) _ _ a9 a10, fun post h => hq _ _ _ _ _ _ h1 h2 h⟩
        · exact ⟨-2, _, qv_mkG hI (by omega) a5 a6 a9 a10, fun post h => qv_comp_full hw h8 h1 h2 hc h⟩
      · exact ⟨-6, _, qv_mkG hI (by omega) a5 a6 a9 a10, fun post h => qv_comp_bad hw h8 (Or.inr h2) h⟩
  · exact ⟨-5, _, qv_mkG hI (by omega) a5 a6 a9 a10, fun post h => qv_comp_no hx h⟩
theorem qv_E_expire {m : Nat} {u : St1} (hG : qv_G m u) (x : Int32) : qv_E (m + 1) (fun post => wpX_expire post u x) := by
  obtain ⟨t, b, m', n, K, M, a1, a2, a3, a4, a5, a6, a7, a8, a9, a10, e, hI, hm⟩ := hG
  subst e
  obtain ⟨s, s1, s2, _, _, hs⟩ := qv_stay x
  obtain ⟨n', K', a1', a2', a3', a7', g, hI', _, hw⟩ := qv_expire hI a6 s1 s2
  exact ⟨nI g, _, qv_mkG hI' (by omega) a5 a6 a9 a10, fun post h => hs _ _ _ _ _ _ _ _ _ _ _ _ _ _ _ _ (hw _ _ _ _ _ _ _ h)⟩
theorem qv_E_map {m : Nat} {W W' : (Int32 → St1 → Prop) → Prop} (h : qv_E m W) (hw : ∀ post, W (fun r u => match u with | (c1, c2, c3, c4, c5, d1, d2, d3, d4, d5, d6, d7, d8, d9, d10) => post r (c1, c2, c3, c4, c5, d1, d2, d3, d4, d5, d6, d7, d8, d9, d10)) → W' post) : qv_E m W' := by
  obtain ⟨r, u, hG, hq⟩ := h
  obtain ⟨c1, c2, c3, c4, c5, d1, d2, d3, d4, d5, d6, d7, d8, d9, d10⟩ := u
  exact ⟨r, _, hG, fun post hp => hw post (hq _ hp)⟩
theorem qv_call {m : Nat} {u : St1} (hG : qv_G m u) (h31 : m < 2 ^ 30) (p x y z : Int32) : qv_E (m + 1) (fun post => wpL_call post u p x y z) := by
  obtain ⟨c1, c2, c3, c4, c5, d1, d2, d3, d4, d5, d6, d7, d8, d9, d10⟩ := u
  by_cases h5 : 5 ≤ p
  · by_cases h55 : p = 5
    · obtain ⟨r, u, hG', hq⟩ := qv_E_erase hG
      exact ⟨r, u, hG', fun post h => br_t h5 (br_t h55 (hq post h))⟩
    · by_cases h9 : 9 ≤ p
      · by_cases h99 : p = 9
        · exact qv_E_map (qv_E_remove hG h31) (fun post h => br_t h5 (br_f h55 (br_t h9 (br_t h99 h))))
        · by_cases h10 : p = 10
          · exact qv_E_map (qv_E_destroy hG x) (fun post h => br_t h5 (br_f h55 (br_t h9 (br_f h99 (br_t h10 h)))))
          · by_cases h11 : p = 11
            · exact qv_E_map (qv_E_begin hG) (fun post h => br_t h5 (br_f h55 (br_t h9 (br_f h99 (br_f h10 (br_t h11 h))))))
            · by_cases h12 : p = 12
              · exact qv_E_map (qv_E_part hG x y z) (fun post h => br_t h5 (br_f h55 (br_t h9 (br_f h99 (br_f h10 (br_f h11 (br_t h12 h)))))))
              · by_cases h13 : p = 13
                · exact qv_E_map (qv_E_complete hG h31 x y) (fun post h => br_t h5 (br_f h55 (br_t h9 (br_f h99 (br_f h10 (br_f h11 (br_f h12 (br_t h13 h))))))))
                · by_cases h14 : p = 14
                  · exact qv_E_map (qv_E_abort hG x) (fun post h => br_t h5 (br_f h55 (br_t h9 (br_f h99 (br_f h10 (br_f h11 (br_f h12 (br_f h13 (br_t h14 h)))))))))
                  · exact qv_E_map (qv_E_expire hG x) (fun post h => br_t h5 (br_f h55 (br_t h9 (br_f h99 (br_f h10 (br_f h11 (br_f h12 (br_f h13 (br_f h14 h)))))))))
      · exact qv_E_map (qv_E_put hG h31 x) (fun post h => br_t h5 (br_f h55 (br_f h9 h)))
  · exact qv_E_map (qv_E_type hG x) (fun post h => br_f h5 h)
end
section
/-! two objects with the same chains -/
def qv_sim (M : Nat → List Nat) (c4 c5 c6 a4 a5 a6 : Nat → Int32) : Prop := ∀ k v, v ∈ M k → c4 v = a4 v ∧ c5 v = a5 v ∧ c6 v = a6 v
theorem qv_sim_r (M : Nat → List Nat) (a4 a5 a6 : Nat → Int32) : qv_sim M a4 a5 a6 a4 a5 a6 := fun _ _ _ => ⟨rfl, rfl, rfl⟩
theorem qv_sim_up {M : Nat → List Nat} {c4 c5 c6 a4 a5 a6 : Nat → Int32} (h : qv_sim M c4 c5 c6 a4 a5 a6) {w : Nat} (hw : ∀ j, w ∉ M j) (x4 x5 x6 : Int32) : qv_sim M (upd c4 w x4) (upd c5 w x5) (upd c6 w x6) a4 a5 a6 := by
  intro k v hv
  have e : v ≠ w := fun z => hw k (z ▸ hv)
  rw [pk_un e, pk_un e, pk_un e]
  exact h k v hv
theorem qv_sim_P {M : Nat → List Nat} {c4 c5 c6 a4 a5 a6 : Nat → Int32} (h : qv_sim M c4 c5 c6 a4 a5 a6) : qv_P M c6 = qv_P M a6 := by
  funext k
  cases e : M k with
  | nil => rw [qv_P_nil e, qv_P_nil e]
  | cons v l => rw [qv_P_cons e, qv_P_cons e, (h k v (by rw [e]; simp)).2.2]
theorem qv_gt_nil {M : Nat → List Nat} {a5 a6 : Nat → Int32} {k : Nat} (e : M k = []) : qv_gt M a5 a6 k = 0 := by
  unfold qv_gt
  rw [e]
theorem qv_gt_cons {M : Nat → List Nat} {a5 a6 : Nat → Int32} {k v : Nat} {l : List Nat} (e : M k = v :: l) : qv_gt M a5 a6 k = if a6 v = 0 then a5 v else 0 := by
  unfold qv_gt
  rw [e]
theorem qv_sim_gt {M : Nat → List Nat} {c4 c5 c6 a4 a5 a6 : Nat → Int32} (h : qv_sim M c4 c5 c6 a4 a5 a6) (k : Nat) : qv_gt M c5 c6 k = qv_gt M a5 a6 k := by
  cases e : M k with
  | nil => rw [qv_gt_nil e, qv_gt_nil e]
  | cons v l =>
    have h2 := h k v (by rw [e]; simp)
    rw [qv_gt_cons e, qv_gt_cons e, h2.2.1, h2.2.2]
theorem qv_sim_vn {M : Nat → List Nat} {c4 c5 c6 a4 a5 a6 : Nat → Int32} (h : qv_sim M c4 c5 c6 a4 a5 a6) (k : Nat) : ∀ l, (∀ v, v ∈ l → v ∈ M k) → qv_vn c4 l = qv_vn a4 l := by
  intro l hl
  cases l with
  | nil => rfl
  | cons v l => exact (h k v (hl v (by simp))).1
theorem qv_same {post : Int32 → Prop} {t b m n m' n' : Nat} {K K' : Nat → Nat} {M : Nat → List Nat} {mc tc md td : Int32} {a1 a2 a3 a4 a5 a6 a7 a8 a9 a10 c1 c2 c3 c4 c5 c6 c7 c8 c9 c10 : Nat → Int32} (hc : qv_I t b m' n' K' M c1 c2 c3 c4 c7 c8) (hd : qv_I t b m n K M a1 a2 a3 a4 a7 a8) (hs : qv_sim M c4 c5 c6 a4 a5 a6) (h : post 1) : wpL_same post (nI t, nI b, nI n', mc, tc, c1, c2, c3, c4, c5, c6, c7, c8, c9, c10, nI t, nI b, nI n, md, td, a1, a2, a3, a4, a5, a6, a7, a8, a9, a10) := by
  obtain ⟨hT, hA, hH, hS, _, _⟩ := hd
  obtain ⟨_, hA', hH', hS', _, _⟩ := hc
  have hb := qv_T_b hT
  have eP := qv_sim_P hs
  unfold wpL_same
  exact pk_loop (σ := Unit) (fun f i _ => wL_same_2 post (nI t) (nI b) (nI n') mc tc c1 c2 c3 c4 c5 c6 c7 c8 c9 c10 (nI t) (nI b) (nI n) md td a1 a2 a3 a4 a5 a6 a7 a8 a9 a10 f (nI i)) (fun _ _ => True) 24 0 () (by omega) trivial
    (fun f _ _ => pk_le 24 24 (fun _ => qv_get hA' hH' hS' (by omega) (qv_get hA hH hS (by omega) (br_t (qv_sim_gt hs b) (qv_present hA' hH' hS' (by omega) (qv_present hA hH hS (by omega) (br_t (by rw [eP]) h)))))) (fun z => absurd z (by omega)))
    (fun f i _ hi _ hw => pk_le 24 i (fun z => absurd z (by omega)) (fun _ =>
      qv_entry (fo := false) hT hA' hH' hS' (by omega) (qv_entry (fo := false) hT hA hH hS (by omega) (br_t (by rw [eP])
        (qv_entry (fo := true) hT hA' hH' hS' (by omega) (qv_entry (fo := true) hT hA hH hS (by omega) (br_t (by rw [eP])
          (qv_versionAt hA' hH' hS' (by omega) (by omega) (qv_versionAt hA hH hS (by omega) (by omega) (br_t (qv_sim_vn hs b _ (fun v hv => List.mem_of_mem_drop hv))
            (nm_r (nI_1 i) (hw () trivial))))))))))))
/-! what expire leaves -/
theorem qv_ex_head {s v : Nat} {a6 : Nat → Int32} {l r : List Nat} (hs : 1 ≤ s) (e : l = v :: r) (h : a6 v = 0) : ∃ r', qv_ex s a6 l = v :: r' := by
  obtain ⟨c, ec⟩ : ∃ c, s = c + 1 := ⟨s - 1, by omega⟩
  have h1 : l.take s = v :: r.take c := by rw [e, ec, List.take_succ_cons]
  cases g : r.take c with
  | nil =>
    rw [g] at h1
    exact ⟨[], qv_ex_1 h1 h⟩
  | cons w q =>
    rw [g] at h1
    exact ⟨w :: q, qv_ex_2 h1⟩
theorem qv_ex_mark {s v : Nat} {a6 : Nat → Int32} {l r : List Nat} (hs : 1 ≤ s) (e : l = v :: r) (h : ¬ a6 v = 0) : qv_ex s a6 l = [] ∨ ∃ r', qv_ex s a6 l = v :: r' := by
  obtain ⟨c, ec⟩ : ∃ c, s = c + 1 := ⟨s - 1, by omega⟩
  have h1 : l.take s = v :: r.take c := by rw [e, ec, List.take_succ_cons]
  cases g : r.take c with
  | nil =>
    rw [g] at h1
    exact Or.inl (qv_ex_1n h1 h)
  | cons w q =>
    rw [g] at h1
    exact Or.inr ⟨w :: q, qv_ex_2 h1⟩
theorem qv_ex_nil {s : Nat} {a6 : Nat → Int32} {l : List Nat} (e : l = []) : qv_ex s a6 l = [] := by
  rw [e]
  exact qv_ex_0 List.take_nil
theorem qv_P_ex {s : Nat} {a6 : Nat → Int32} {M : Nat → List Nat} (hs : 1 ≤ s) : qv_P (fun j => qv_ex s a6 (M j)) a6 = qv_P M a6 := by
  funext k
  cases e : M k with
  | nil =>
    rw [qv_P_nil e]
    exact qv_P_nil (M := fun j => qv_ex s a6 (M j)) (qv_ex_nil e)
  | cons v l =>
    rw [qv_P_cons e]
    by_cases h : a6 v = 0
    · obtain ⟨r, hr⟩ := qv_ex_head hs e h
      exact qv_P_cons (M := fun j => qv_ex s a6 (M j)) hr
    · rcases qv_ex_mark hs e h with g | ⟨r, hr⟩
      · rw [decide_eq_false h]
        exact qv_P_nil (M := fun j => qv_ex s a6 (M j)) g
      · exact qv_P_cons (M := fun j => qv_ex s a6 (M j)) hr
theorem qv_gt_ex {s k : Nat} {a5 a6 : Nat → Int32} {M : Nat → List Nat} (hs : 1 ≤ s) : qv_gt (fun j => qv_ex s a6 (M j)) a5 a6 k = qv_gt M a5 a6 k := by
  cases e : M k with
  | nil =>
    rw [qv_gt_nil e]
    exact qv_gt_nil (M := fun j => qv_ex s a6 (M j)) (qv_ex_nil e)
  | cons v l =>
    rw [qv_gt_cons e]
    by_cases h : a6 v = 0
    · obtain ⟨r, hr⟩ := qv_ex_head hs e h
      exact qv_gt_cons (M := fun j => qv_ex s a6 (M j)) hr
    · rcases qv_ex_mark hs e h with g | ⟨r, hr⟩
      · rw [if_neg h]
        exact qv_gt_nil (M := fun j => qv_ex s a6 (M j)) g
      · exact qv_gt_cons (M := fun j => qv_ex s a6 (M j)) hr
theorem qv_ex_idem {s : Nat} {a6 : Nat → Int32} {l : List Nat} (h : l.length ≤ s) : qv_ex s a6 (qv_ex s a6 l) = qv_ex s a6 l := by
  have ht : l.take s = l := List.take_of_length_le h
  match l, h, ht with
  | [], _, _ => rw [qv_ex_nil (s := s) (a6 := a6) rfl]; exact qv_ex_nil rfl
  | [v], _, ht =>
    by_cases g : a6 v = 0
    · rw [qv_ex_1 ht g]
      exact qv_ex_1 ht g
    · rw [qv_ex_1n ht g]
      exact qv_ex_nil rfl
  | v :: w :: r, _, ht =>
    rw [qv_ex_2 (a6 := a6) ht]
    exact qv_ex_2 ht
theorem qv_ex1_drop {a6 : Nat → Int32} {l : List Nat} : (qv_ex 1 a6 l).drop 1 = [] := by
  cases l with
  | nil =>
    rw [qv_ex_nil (s := 1) (a6 := a6) rfl]
    rfl
  | cons v r =>
    have ht : (v :: r).take 1 = [v] := rfl
    by_cases g : a6 v = 0
    · rw [qv_ex_1 ht g]
      rfl
    · rw [qv_ex_1n ht g]
      rfl
theorem qv_ex1_mark {a6 : Nat → Int32} {M : Nat → List Nat} {k : Nat} (h : qv_P M a6 k = false) : qv_ex 1 a6 (M k) = [] := by
  cases e : M k with
  | nil => exact qv_ex_nil rfl
  | cons v r =>
    rw [qv_P_cons e] at h
    have ht : (v :: r).take 1 = [v] := rfl
    exact qv_ex_1n ht (of_decide_eq_false h)
end
section
/-! the law behind its loop: from the end on -/
section
variable {L : Nat} {xs : Nat → Int32} {kc ks t b m n m' n' : Nat} {K K' : Nat → Nat} {M M' : Nat → List Nat} {a1 a2 a3 a4 a5 a6 a7 a8 a9 a10 c1 c2 c3 c4 c5 c6 c7 c8 c9 c10 : Nat → Int32}
theorem qv_eraseL {post : St1 → Prop} {ty bu ke ma th : Int32} (h : post (0, 0, ke, ma, th, a1, a2, a3, a4, a5, a6, a7, a8, a9, a10)) : wpX_erase post (ty, bu, ke, ma, th, a1, a2, a3, a4, a5, a6, a7, a8, a9, a10) := h
theorem qv_L524 (hc : qv_I 0 0 m' n' K' M' c1 c2 c3 c4 c7 c8) (hd : qv_I 0 0 m n K M a1 a2 a3 a4 a7 a8) (eP : qv_P M' c6 = qv_P M a6) : ∃ f, wL_law_524 (fun r => r = 1) L xs (-1 - qv_fe (qv_P M a6) (qv_end 0 0) 0 false (-1) 24 0 0) kc ks (nI 0) (nI 0) (nI n') (nI m') (nI (qv_cnt c3 24)) c1 c2 c3 c4 c5 c6 c7 c8 c9 c10 (nI 0) (nI 0) (nI n) (nI m) (nI (qv_cnt a3 24)) a1 a2 a3 a4 a5 a6 a7 a8 a9 a10 f 0 := by
  obtain ⟨hT, hA, hH, hS, _, _⟩ := hd
  obtain ⟨_, hA', hH', hS', _, _⟩ := hc
  have h0 : M' 0 = [] := by
    cases e : M' 0 with
    | nil => rfl
    | cons v l =>
      obtain ⟨i, hi, e2⟩ := hH'.2 0 (by rw [e]; simp)
      have := (hA'.2.1 i hi).2.1
      omega
  exact pk_loop (σ := Unit) (fun f i _ => wL_law_524 (fun r => r = 1) L xs (-1 - qv_fe (qv_P M a6) (qv_end 0 0) 0 false (-1) 24 0 0) kc ks (nI 0) (nI 0) (nI n') (nI m') (nI (qv_cnt c3 24)) c1 c2 c3 c4 c5 c6 c7 c8 c9 c10 (nI 0) (nI 0) (nI n) (nI m) (nI (qv_cnt a3 24)) a1 a2 a3 a4 a5 a6 a7 a8 a9 a10 f (nI i)) (fun _ _ => True) 24 0 () (by omega) trivial
    (fun f _ _ => pk_le 24 24 (fun _ => qv_list (fo := false) hT hA hH hS (br_t rfl (qv_versionAt (i := 0) hA' hH' hS' (by omega) (by omega) (br_t (by rw [h0]; rfl) rfl)))) (fun z => absurd z (by omega)))
    (fun f i _ hi _ hw => pk_le 24 i (fun z => absurd z (by omega)) (fun _ =>
      qv_entry (fo := false) hT hA' hH' hS' (by omega) (qv_entry (fo := false) hT hA hH hS (by omega) (br_t (by rw [eP]) (nm_r (nI_1 i) (hw () trivial))))))
theorem qv_L490 {z0 z1 : Int32} (hz : z1 = z0) (hc : qv_I t b m' n' K' M' c1 c2 c3 c4 c7 c8) (hd : qv_I t b m n K M a1 a2 a3 a4 a7 a8) (eP : qv_P M' c6 = qv_P M a6) (hg : qv_gt M' c5 c6 b = qv_gt M a5 a6 b) : wL_law_490 (fun r => r = 1) L xs z0 z1 kc ks (nI t) (nI b) (nI n') (nI m') (nI (qv_cnt c3 24)) c1 c2 c3 c4 c5 c6 c7 c8 c9 c10 (nI t) (nI b) (nI n) (nI m) (nI (qv_cnt a3 24)) a1 a2 a3 a4 a5 a6 a7 a8 a9 a10 := by
  have hb := qv_T_b hd.1
  unfold wL_law_490
  refine br_t hz (qv_get hc.2.1 hc.2.2.1 hc.2.2.2.1 (by omega) (qv_get hd.2.1 hd.2.2.1 hd.2.2.2.1 (by omega) (br_t hg (qv_eraseL (qv_eraseL (qv_list (t := 0) (b := 0) (fo := false) qv_T_0 hc.2.1 hc.2.2.1 hc.2.2.2.1 ?_))))))
  rw [eP]
  exact qv_L524 ⟨qv_T_0, hc.2⟩ ⟨qv_T_0, hd.2⟩ eP
theorem qv_exp24 (hI : qv_I t b m n K M a1 a2 a3 a4 a7 a8) (a6 : Nat → Int32) :
    ∃ (M1 : Nat → List Nat) (n' : Nat) (K' : Nat → Nat) (a1' a2' a3' a7' : Nat → Int32) (g : Nat), qv_I t b m n' K' M1 a1' a2' a3' a4 a7' a8 ∧ g ≤ 24 ∧ ((∀ j, qv_ex 25 a6 (M j) = M j) → g = 0) ∧ (∀ j, qv_ex 25 a6 (M1 j) = M1 j) ∧ qv_P M1 a6 = qv_P M a6 ∧ (∀ (a5 : Nat → Int32) (k : Nat), qv_gt M1 a5 a6 k = qv_gt M a5 a6 k) ∧ (∀ k v r, M k = v :: r → a6 v = 0 → ∃ r', M1 k = v :: r') ∧
      ∀ (post : Int32 → St1 → Prop) (ty bu ma : Int32) (a5 a9 a10 : Nat → Int32),
        post (nI g) (ty, bu, nI n', ma, nI (qv_cnt a3' 24), a1', a2', a3', a4, a5, a6, a7', a8, a9, a10) →
        wpX_expire post (ty, bu, nI n, ma, nI (qv_cnt a3 24), a1, a2, a3, a4, a5, a6, a7, a8, a9, a10) 24 := by
  obtain ⟨s, s1, s2, s3, _, hst⟩ := qv_stay 24
  have e := s3 rfl
  subst e
  obtain ⟨n', K', a1', a2', a3', a7', g, hI1, hg, hw⟩ := qv_expire hI a6 s1 s2
  have hle := qv_cnt_le a3 24
  refine ⟨_, n', K', a1', a2', a3', a7', g, hI1, by omega, ?_, ?_, qv_P_ex s1, fun a5 k => qv_gt_ex s1, fun k v r h1 h2 => qv_ex_head s1 h1 h2, ?_⟩
  · intro hid
    have := qv_S_cnt hI.2.2.2.1 hI1.2.2.2.1 hid
    omega
  · intro j
    have hl := qv_len hI.2.2.2.1 j
    exact qv_ex_idem (by omega)
  · intro post ty bu ma a5 a9 a10 h
    exact hst _ _ _ _ _ _ _ _ _ _ _ _ _ _ _ _ (hw _ _ _ _ _ _ _ h)
theorem qv_exp0 (hI : qv_I t b m n K M a1 a2 a3 a4 a7 a8) (a6 : Nat → Int32) :
    ∃ (M1 : Nat → List Nat) (n' : Nat) (K' : Nat → Nat) (a1' a2' a3' a7' : Nat → Int32) (g : Nat), qv_I t b m n' K' M1 a1' a2' a3' a4 a7' a8 ∧ (∀ k, (M1 k).drop 1 = []) ∧ (∀ k, qv_P M a6 k = false → M1 k = []) ∧ qv_P M1 a6 = qv_P M a6 ∧ (∀ (a5 : Nat → Int32) (k : Nat), qv_gt M1 a5 a6 k = qv_gt M a5 a6 k) ∧ (∀ k v r, M k = v :: r → a6 v = 0 → ∃ r', M1 k = v :: r') ∧
      ∀ (post : Int32 → St1 → Prop) (ty bu ma : Int32) (a5 a9 a10 : Nat → Int32),
        post (nI g) (ty, bu, nI n', ma, nI (qv_cnt a3' 24), a1', a2', a3', a4, a5, a6, a7', a8, a9, a10) →
        wpX_expire post (ty, bu, nI n, ma, nI (qv_cnt a3 24), a1, a2, a3, a4, a5, a6, a7, a8, a9, a10) 0 := by
  obtain ⟨s, s1, s2, _, s3, hst⟩ := qv_stay 0
  have e := s3 rfl
  subst e
  obtain ⟨n', K', a1', a2', a3', a7', g, hI1, hg, hw⟩ := qv_expire hI a6 s1 s2
  refine ⟨_, n', K', a1', a2', a3', a7', g, hI1, fun k => qv_ex1_drop, fun k h => qv_ex1_mark h, qv_P_ex s1, fun a5 k => qv_gt_ex s1, fun k v r h1 h2 => qv_ex_head s1 h1 h2, ?_⟩
  intro post ty bu ma a5 a9 a10 h
  exact hst _ _ _ _ _ _ _ _ _ _ _ _ _ _ _ _ (hw _ _ _ _ _ _ _ h)
theorem qv_L383 {x4 : Int32} (hx : x4 = qv_bi (qv_P M a6 b)) (hc : qv_I t b m' n' K' M c1 c2 c3 c4 c7 c8) (hd : qv_I t b m n K M a1 a2 a3 a4 a7 a8) (hs : qv_sim M c4 c5 c6 a4 a5 a6) : wL_law_383 (fun r => r = 1) L xs x4 kc ks (nI t) (nI b) (nI n') (nI m') (nI (qv_cnt c3 24)) c1 c2 c3 c4 c5 c6 c7 c8 c9 c10 (nI t) (nI b) (nI n) (nI m) (nI (qv_cnt a3 24)) a1 a2 a3 a4 a5 a6 a7 a8 a9 a10 := by
  subst hx
  have hb := qv_T_b hd.1
  unfold wL_law_383
  refine qv_same hc hd hs (br_f (by decide) ?_)
  obtain ⟨M1, n1, K1, d1, d2, d3, d7, g1, hI1, hg1, _, hid1, eP1, eg1, eh1, hw1⟩ := qv_exp24 hc c6
  refine hw1 _ _ _ _ _ _ _ ?_
  obtain ⟨M2, n2, K2, f1, f2, f3, f7, g2, hI2, _, hz2, _, eP2, eg2, eh2, hw2⟩ := qv_exp24 hI1 c6
  have eg0 := hz2 hid1
  subst eg0
  refine hw2 _ _ _ _ _ _ _ (br_t rfl ?_)
  have eS := qv_sim_P hs
  have eP : qv_P M2 c6 = qv_P M a6 := by rw [eP2, eP1, eS]
  refine qv_present hI2.2.1 hI2.2.2.1 hI2.2.2.2.1 (by omega) (br_t (by rw [eP]) ?_)
  refine qv_list (fo := false) hI2.1 hI2.2.1 hI2.2.2.1 hI2.2.2.2.1 (qv_list (fo := false) hd.1 hd.2.1 hd.2.2.1 hd.2.2.2.1 (br_t (by rw [eP]) ?_))
  refine qv_list (fo := true) hI2.1 hI2.2.1 hI2.2.2.1 hI2.2.2.2.1 (qv_list (fo := true) hd.1 hd.2.1 hd.2.2.1 hd.2.2.2.1 (br_t (by rw [eP]) ?_))
  refine br_t (nI_le (b := 24) hg1 (by omega)) ?_
  obtain ⟨M3, n3, K3, e1, e2, e3, e7, g3, hI3, h3d, h3m, eP3, eg3, eh3, hw3⟩ := qv_exp0 hI2 c6
  refine hw3 _ _ _ _ _ _ _ ?_
  refine qv_versionAt (i := 1) hI3.2.1 hI3.2.2.1 hI3.2.2.2.1 (by omega) (by omega) (br_t (by rw [h3d]; rfl) ?_)
  have ePd : qv_P M3 c6 = qv_P M a6 := by rw [eP3, eP]
  have egd : qv_gt M3 c5 c6 b = qv_gt M a5 a6 b := by rw [eg3, eg2, eg1, qv_sim_gt hs]
  refine qv_versionAt (i := 0) hI3.2.1 hI3.2.2.1 hI3.2.2.2.1 (by omega) (by omega) ?_
  cases hP : qv_P M a6 b with
  | false =>
    refine br_t rfl (qv_L490 ?_ hI3 hd ePd egd)
    rw [h3m b (by rw [eP]; exact hP)]
    rfl
  | true =>
    refine br_f (by decide) (qv_versionAt (i := 0) hd.2.1 hd.2.2.1 hd.2.2.2.1 (by omega) (by omega) (qv_L490 ?_ hI3 hd ePd egd))
    rw [← eS] at hP
    obtain ⟨v, l, e, h6⟩ := qv_P_true hP
    obtain ⟨l1, q1⟩ := eh1 b v l e h6
    obtain ⟨l2, q2⟩ := eh2 b v l1 q1 h6
    obtain ⟨l3, q3⟩ := eh3 b v l2 q2 h6
    rw [q3, e]
    exact (hs b v (by rw [e]; simp)).1
end
end
section
/-! the law behind its loop: put, remove, destroy; the upload -/
theorem qv_del_add {M : Nat → List Nat} {k v : Nat} (hv : ∀ j, v ∉ M j) : qv_del (qv_add M k v) v = M := by
  funext j
  show (qv_add M k v j).erase v = M j
  by_cases e : j = k
  · rw [e, qv_add1, List.erase_cons_head]
  · rw [qv_add2 e, List.erase_of_not_mem (hv j)]
theorem qv_co5 {A : Nat → Int32} {u : Nat} {y : Int32} (h0 : A (u * 8 + 0) = 7) (h2 : A (u * 8 + 2) = y) : qv_co (5 &&& 255) A u 8 = (0 * 31 + 7) * 31 + y := by
  have e : ∀ i, qv_co (5 &&& 255) A u (i + 1) = if (((5 &&& 255 : Int32) >>> (nI i &&& 31)) &&& 1) = 1 then qv_co (5 &&& 255) A u i * 31 + A (u * 8 + i) else qv_co (5 &&& 255) A u i := fun i => rfl
  rw [e 7, if_neg (by decide), e 6, if_neg (by decide), e 5, if_neg (by decide), e 4, if_neg (by decide), e 3, if_neg (by decide), e 2, if_pos (by decide), e 1, if_neg (by decide), e 0, if_pos (by decide), h0, h2]
  rfl
section
variable {L : Nat} {xs : Nat → Int32} {kc ks t b m n m' n' : Nat} {K K' : Nat → Nat} {M M' : Nat → List Nat} {a1 a2 a3 a4 a5 a6 a7 a8 a9 a10 c1 c2 c3 c4 c5 c6 c7 c8 c9 c10 : Nat → Int32}
theorem qv_partV {post : Int32 → St1 → Prop} {ty bu ke ma th : Int32} {u y : Nat} {x z w r : Int32} (hu : u < 3) (h8 : a8 u ≠ 0) (hy : y < 8) (e9 : a9 u = z) (ew : (z ||| ((1 : Int32) <<< (nI y &&& 31))) = w) (er : qv_bs w 8 = r) (h : post r (ty, bu, ke, ma, th, a1, a2, a3, a4, a5, a6, a7, a8, upd a9 u w, upd a10 (u * 8 + y) x)) : wpX_part post (ty, bu, ke, ma, th, a1, a2, a3, a4, a5, a6, a7, a8, a9, a10) (nI u) (nI y) x := by
  refine qv_part hu h8 hy ?_
  rw [e9, ew, er]
  exact h
theorem qv_L244 {x3 x4 : Int32} (hx : x4 = qv_bi (qv_P M a6 b)) (ht : 0 < t) (hm : m' < 2 ^ 30) (hc : qv_I t b m' n' K' M c1 c2 c3 c4 c7 c8) (hd : qv_I t b m n K M a1 a2 a3 a4 a7 a8) (hs : qv_sim M c4 c5 c6 a4 a5 a6) : wL_law_244 (fun r => r = 1) L xs x3 x4 kc ks (nI t) (nI b) (nI n') (nI m') (nI (qv_cnt c3 24)) c1 c2 c3 c4 c5 c6 c7 c8 c9 c10 (nI t) (nI b) (nI n) (nI m) (nI (qv_cnt a3 24)) a1 a2 a3 a4 a5 a6 a7 a8 a9 a10 := by
  have hT := hd.1
  have hb := qv_T_b hT
  have hb0 := hT.2.2 ht
  unfold wL_law_244
  refine qv_same hc hd hs (br_f (by decide) ?_)
  rcases qv_begin c8 with ⟨_, hw⟩ | ⟨u, hu, h8, hw⟩
  · exact hw _ _ _ _ _ _ _ _ _ _ _ _ _ _ _ ht hT.1 (br_t (by decide) (qv_L383 hx hc hd hs))
  · refine hw _ _ _ _ _ _ _ _ _ _ _ _ _ _ _ ht hT.1 (br_f (nI_pos (by omega)) ?_)
    have h8u : upd c8 u (nI b) u ≠ 0 := by
      rw [pk_us]
      exact nI_ne0 hb0 (by omega)
    have hc2 : qv_I t b m' n' K' M c1 c2 c3 c4 c7 (upd c8 u (nI b)) := ⟨hT, hc.2.1, hc.2.2.1, hc.2.2.2.1, hc.2.2.2.2.1, qv_U_upd hc.2.2.2.2.2 hb⟩
    refine qv_partV (y := 2) (z := 0) (w := 4) (r := 1) hu h8u (by omega) pk_us (by decide) (by decide) (br_t rfl ?_)
    refine qv_partV (y := 0) (z := 4) (w := 5) (r := 2) hu h8u (by omega) pk_us (by decide) (by decide) (br_t rfl ?_)
    refine qv_partV (y := 2) (z := 5) (w := 5) (r := 2) hu h8u (by omega) pk_us (by decide) (by decide) (br_t rfl ?_)
    refine qv_same hc2 hd hs (br_f (by decide) ?_)
    by_cases hcn : qv_cnt c3 24 < 24
    · obtain ⟨v, n2, K2, d1, d2, d7, hv, h0, hI2, hw2⟩ := qv_comp_ok (u := u) hc2 (by omega) hu pk_us hb0 hb hcn
      have hfr := qv_fresh hc.2.2.2.1 h0
      refine hw2 _ _ _ _ _ _ (by decide) (by rw [pk_us]; decide) (br_f (nI_pos (by omega)) ?_)
      refine qv_get hI2.2.1 hI2.2.2.1 hI2.2.2.2.1 (by omega) (br_t ?_ ?_)
      · rw [qv_gt_cons qv_add1, pk_us, pk_us, if_pos rfl, qv_co5 (y := x3 + 1) (by rw [pk_un (by omega), pk_us]) pk_us]
        rw [show ((0 : Int32) * 31 + 7) * 31 = 217 by decide, Int32.add_assoc]
      · refine qv_abort_no ?_ (br_t rfl ?_)
        · rintro ⟨w, hw9, e, g⟩
          rw [nI_eq (by omega) (by omega)] at e
          subst e
          exact g pk_us
        · have hvm : v ∈ qv_add M b v b := by
            rw [qv_add1]
            simp
          obtain ⟨n3, K3, e1, e2, e7, hI3, hw3⟩ := qv_destroy hI2 hvm
          have e4 : upd c4 v (nI m') v = nI m' := pk_us
          rw [e4] at hw3
          rw [qv_del_add hfr] at hI3
          exact hw3 _ _ _ _ _ _ _ _ (br_t (nI_pos' (by have := qv_cnt_le (upd (upd c3 v 1) v 0) 24; omega)) (qv_L383 hx hI3 hd (qv_sim_up hs hfr _ _ _)))
    · refine qv_comp_full hu h8u (by decide) (by rw [pk_us]; decide) hcn (br_t (by decide) (br_t rfl ?_))
      have hc3 : qv_I t b m' n' K' M c1 c2 c3 c4 c7 (upd (upd c8 u (nI b)) u 0) := ⟨hT, hc.2.1, hc.2.2.1, hc.2.2.2.1, hc.2.2.2.2.1, qv_U_upd (k := 0) hc2.2.2.2.2.2 (by omega)⟩
      exact qv_abort hu h8u (br_t (by rw [pk_us]; decide) (qv_L383 hx hc3 hd hs))
theorem qv_L192 {v : Nat} {x3 x4 x5 : Int32} (hx : x4 = qv_bi (qv_P M a6 b)) (ht : 0 < t) (hm : m' < 2 ^ 30) (hc : qv_I t b m' n' K' (qv_add M b v) c1 c2 c3 c4 c7 c8) (hd : qv_I t b m n K M a1 a2 a3 a4 a7 a8) (hs : qv_sim M c4 c5 c6 a4 a5 a6) (hfr : ∀ j, v ∉ M j) (h4 : x5 = c4 v) (h5 : c5 v = x3) (h6 : c6 v = 0) : wL_law_192 (fun r => r = 1) L xs x3 x4 x5 kc ks (nI t) (nI b) (nI n') (nI m') (nI (qv_cnt c3 24)) c1 c2 c3 c4 c5 c6 c7 c8 c9 c10 (nI t) (nI b) (nI n) (nI m) (nI (qv_cnt a3 24)) a1 a2 a3 a4 a5 a6 a7 a8 a9 a10 := by
  subst h4
  have hT := hd.1
  have hb := qv_T_b hT
  have hvm : v ∈ qv_add M b v b := by
    rw [qv_add1]
    simp
  unfold wL_law_192
  refine qv_get hc.2.1 hc.2.2.1 hc.2.2.2.1 (by omega) (br_t ?_ ?_)
  · rw [qv_gt_cons qv_add1, if_pos h6, h5]
  refine qv_content hc.2.2.2.1 hc.2.2.2.2.1 hvm h6 (br_t h5 ?_)
  refine qv_versionAt (i := 0) hc.2.1 hc.2.2.1 hc.2.2.2.1 (by omega) (by omega) (br_t ?_ ?_)
  · rw [qv_add1]
    rfl
  refine qv_versionAt (i := 1) hc.2.1 hc.2.2.1 hc.2.2.2.1 (by omega) (by omega) (qv_versionAt (i := 0) hd.2.1 hd.2.2.1 hd.2.2.2.1 (by omega) (by omega) (br_t ?_ ?_))
  · rw [qv_add1]
    exact qv_sim_vn hs b (M b) (fun w hw => hw)
  obtain ⟨n3, K3, e1, e2, e7, hI3, hw3⟩ := qv_destroy hc hvm
  rw [qv_del_add hfr] at hI3
  exact hw3 _ _ _ _ _ _ _ _ (br_t (nI_pos' (by have := qv_cnt_le (upd c3 v 0) 24; omega)) (qv_L244 hx ht hm hI3 hd hs))
/-- the listing's length -/
theorem qv_list_n (hI : qv_I t b m n K M a1 a2 a3 a4 a7 a8) (a6 : Nat → Int32) : -1 - qv_fe (qv_P M a6) (qv_end t b) t false (-1) 24 0 b = nI (qv_cn (qv_P M a6) (qv_end t b - b) b) := by
  have h1 := qv_cn_le2 (a6 := a6) hI.2.1 hI.2.2.1 (qv_end t b - b) b 0 (by omega) (fun j hj => absurd hj (by omega))
  have hn := hI.2.1.1
  rw [qv_fe_cn 24 0 b (by omega) (by omega), Nat.zero_add]
  generalize nI (qv_cn (qv_P M a6) (qv_end t b - b) b) = y
  grind
theorem qv_cn_first {P Q : Nat → Bool} (ht : 0 < t) (hQ : Q b = false) (hPQ : ∀ j, j ≠ b → Q j = P j) : qv_cn P (qv_end t b - b) b = qv_cn Q (qv_end t b - b) b + (if P b = true then 1 else 0) := by
  have hpos : 0 < 7 ^ (4 - t) := Nat.pow_pos (by decide)
  have he : qv_end t b = b + 7 ^ (4 - t) := if_neg (by omega)
  obtain ⟨f, ef⟩ : ∃ f, qv_end t b - b = f + 1 := ⟨qv_end t b - b - 1, by omega⟩
  rw [ef]
  show (if P b = true then 1 else 0) + qv_cn P f (b + 1) = (if Q b = true then 1 else 0) + qv_cn Q f (b + 1) + (if P b = true then 1 else 0)
  rw [hQ, qv_cn_congr f (b + 1) (fun j h1 h2 => hPQ j (by omega))]
  simp
  omega
theorem qv_L120 {z0 : Int32} (ht : 0 < t) (hm : m < 2 ^ 20) (hd : qv_I t b m n K M a1 a2 a3 a4 a7 a8) : wL_law_120 (fun r => r = 1) L xs z0 kc ks (nI t) (nI b) (nI n) (nI m) (nI (qv_cnt a3 24)) a1 a2 a3 a4 a5 a6 a7 a8 a9 a10 (nI t) (nI b) (nI n) (nI m) (nI (qv_cnt a3 24)) a1 a2 a3 a4 a5 a6 a7 a8 a9 a10 := by
  have hT := hd.1
  have hb := qv_T_b hT
  unfold wL_law_120
  refine qv_present hd.2.1 hd.2.2.1 hd.2.2.2.1 (by omega) ?_
  by_cases hcn : qv_cnt a3 24 < 24
  · obtain ⟨v, n1, K1, d1, d2, d7, hv, h0, hI1, hw1⟩ := qv_put_ok hd (by omega) ht hcn
    have hfr := qv_fresh hd.2.2.2.1 h0
    have hs1 : qv_sim M (upd a4 v (nI m)) (upd a5 v z0) (upd a6 v 0) a4 a5 a6 := qv_sim_up (qv_sim_r M a4 a5 a6) hfr _ _ _
    refine hw1 _ _ _ _ _ _ (br_f (nI_pos (by omega)) ?_)
    have hP1 : qv_P (qv_add M b v) (upd a6 v 0) b = true := by
      rw [qv_P_cons qv_add1, pk_us]
      rfl
    by_cases hcn2 : qv_cnt (upd a3 v 1) 24 < 24
    · obtain ⟨w, n2, K2, f1, f2, f7, hw, hw0, hI2, hw2⟩ := qv_remove_ok (a6 := upd a6 v 0) hI1 (by omega) ht hP1 hcn2
      have hfrw := qv_fresh hI1.2.2.2.1 hw0
      have hfrM : ∀ j, w ∉ M j := fun j h => hfrw j (qv_add_mem.mpr (Or.inr h))
      have hne : v ≠ w := by
        intro z
        apply hfrw b
        rw [qv_add1, z]
        simp
      refine hw2 _ _ _ _ (br_f (nI_pos (by omega)) ?_)
      have hP2 : qv_P (qv_add (qv_add M b v) b w) (upd (upd a6 v 0) w 1) b = false := by
        rw [qv_P_cons qv_add1, pk_us]
        rfl
      refine qv_present hI2.2.1 hI2.2.2.1 hI2.2.2.2.1 (by omega) (br_t (by rw [hP2]; rfl) ?_)
      have hPj : ∀ j, j ≠ b → qv_P (qv_add (qv_add M b v) b w) (upd (upd a6 v 0) w 1) j = qv_P M a6 j := by
        intro j hj
        have e1 : qv_add (qv_add M b v) b w j = M j := by rw [qv_add2 hj, qv_add2 hj]
        cases e : M j with
        | nil => rw [qv_P_nil e, qv_P_nil (by rw [e1, e])]
        | cons q l =>
          have hq1 : q ≠ w := fun z => hfrM j (by rw [e, z]; simp)
          have hq2 : q ≠ v := fun z => hfr j (by rw [e, z]; simp)
          rw [qv_P_cons e, qv_P_cons (l := l) (v := q) (by rw [e1, e]), pk_un hq1, pk_un hq2]
      have hcnt := qv_cn_first (P := qv_P M a6) ht hP2 hPj
      refine qv_list (fo := false) hI2.1 hI2.2.1 hI2.2.2.1 hI2.2.2.2.1 (qv_list (fo := false) hd.1 hd.2.1 hd.2.2.1 hd.2.2.2.1 ?_)
      rw [qv_list_n hI2, qv_list_n hd]
      have hwm : w ∈ qv_add (qv_add M b v) b w b := by
        rw [qv_add1]
        simp
      obtain ⟨n3, K3, e1, e2, e7, hI3, hw3⟩ := qv_destroy hI2 hwm
      have e4 : upd (upd a4 v (nI m)) w (nI (m + 1)) w = nI (m + 1) := pk_us
      rw [e4] at hw3
      rw [qv_del_add hfrw] at hI3
      have h192 := fun (x4 : Int32) (hx : x4 = qv_bi (qv_P M a6 b)) => qv_L192 (L := L) (xs := xs) (kc := kc) (ks := ks) (x3 := z0) (x5 := nI m) (c5 := upd (upd a5 v z0) w 0) (c6 := upd (upd a6 v 0) w 1) (c9 := a9) (c10 := a10) (a9 := a9) (a10 := a10) hx ht (by omega) hI3 hd (qv_sim_up hs1 hfrM _ _ _) hfr (by rw [pk_un hne, pk_us]) (by rw [pk_un hne, pk_us]) (by rw [pk_un hne, pk_us])
      have h177 : ∀ z z1 z2 : Int32, z2 = z1 - z → wL_law_177 (fun r => r = 1) L xs z0 (qv_bi (qv_P M a6 b)) (nI m) (nI (m + 1)) z z1 z2 kc ks (nI t) (nI b) (nI n2) (nI (m + 1 + 1)) (nI (qv_cnt (upd (upd a3 v 1) w 1) 24)) f1 f2 (upd (upd a3 v 1) w 1) (upd (upd a4 v (nI m)) w (nI (m + 1))) (upd (upd a5 v z0) w 0) (upd (upd a6 v 0) w 1) f7 a8 a9 a10 (nI t) (nI b) (nI n) (nI m) (nI (qv_cnt a3 24)) a1 a2 a3 a4 a5 a6 a7 a8 a9 a10 := by
        intro z z1 z2 hz
        unfold wL_law_177
        exact br_t hz (hw3 _ _ _ _ _ _ _ _ (br_t (nI_pos' (by have := qv_cnt_le (upd (upd (upd a3 v 1) w 1) w 0) 24; omega)) (h192 _ rfl)))
      rw [hcnt]
      cases hP : qv_P M a6 b with
      | false =>
        rw [hP] at h177
        refine br_t rfl (h177 _ _ _ ?_)
        simp
      | true =>
        rw [hP] at h177
        refine br_f (by decide) (h177 _ _ _ ?_)
        rw [if_pos rfl]
        exact (nI_pred _).symm
    · exact qv_remove_full (a6 := upd a6 v 0) hI1 ht hP1 hcn2 (br_t (by decide) (qv_L192 rfl ht (by omega) hI1 hd hs1 hfr pk_us.symm pk_us pk_us))
  · exact qv_put_full ht hT.1 hcn (br_t (by decide) (qv_L244 rfl ht (by omega) hd hd (qv_sim_r M a4 a5 a6)))
end
end
section
/-! the law's loop, and what is owed -/
theorem qv_G_mono {m m2 : Nat} {u : St1} (h : qv_G m u) (hm : m ≤ m2) : qv_G m2 u := by
  obtain ⟨t, b, m', n, K, M, a1, a2, a3, a4, a5, a6, a7, a8, a9, a10, e, hI, h1⟩ := h
  exact ⟨t, b, m', n, K, M, a1, a2, a3, a4, a5, a6, a7, a8, a9, a10, e, hI, by omega⟩
theorem qv_loop {L kc ks : Nat} {xs : Nat → Int32} (hL : L ≤ 260) : ∀ (f k : Nat) (c1 c2 c3 c4 c5 : Int32) (d1 d2 d3 d4 d5 d6 d7 d8 d9 d10 : Nat → Int32), k ≤ L → L - k < f → qv_G k (c1, c2, c3, c4, c5, d1, d2, d3, d4, d5, d6, d7, d8, d9, d10) →
    wL_law_18 (fun r => r = 1) L xs kc ks f (nI k) c1 c2 c3 c4 c5 d1 d2 d3 d4 d5 d6 d7 d8 d9 d10 c1 c2 c3 c4 c5 d1 d2 d3 d4 d5 d6 d7 d8 d9 d10 := by
  intro f
  induction f with
  | zero => intro k c1 c2 c3 c4 c5 d1 d2 d3 d4 d5 d6 d7 d8 d9 d10 h1 h2 _; omega
  | succ f ih =>
    intro k c1 c2 c3 c4 c5 d1 d2 d3 d4 d5 d6 d7 d8 d9 d10 h1 h2 hG
    refine pk_le L (k + 3) (fun z => ?_) (fun z => ?_) (hy := nI_add k 3)
    · obtain ⟨t, b, m', n, K, M, a1, a2, a3, a4, a5, a6, a7, a8, a9, a10, e, hI, hm⟩ := hG
      simp only [Prod.mk.injEq] at e
      obtain ⟨rfl, rfl, rfl, rfl, rfl, rfl, rfl, rfl, rfl, rfl, rfl, rfl, rfl, rfl, rfl⟩ := e
      obtain ⟨t', b', r, hT, h3, hw⟩ := qv_typeL hI.1 3
      have hI' : qv_I t' b' m' n K M d1 d2 d3 d4 d7 d8 := ⟨hT, hI.2⟩
      refine hw _ _ _ _ _ _ _ _ _ _ _ _ _ _ (hw _ _ _ _ _ _ _ _ _ _ _ _ _ _ ?_)
      exact pk_le L 0 (fun _ => qv_L120 (h3 rfl) (by omega) hI') (fun g => ⟨pk_in 0 L g, qv_L120 (h3 rfl) (by omega) hI'⟩)
    · obtain ⟨r, u, hG', hq⟩ := qv_call hG (by omega) ((xs (nI k).toNatClampNeg) &&& 15) (xs (nI k + 1).toNatClampNeg) (xs (nI k + 2).toNatClampNeg) (xs (nI k + 3).toNatClampNeg)
      obtain ⟨e1, e2, e3, e4, e5, g1, g2, g3, g4, g5, g6, g7, g8, g9, g10⟩ := u
      have i0 : vp_in (nI k) L := pk_in k L (by omega)
      have i1 : vp_in (nI k + 1) L := pk_in (k + 1) L (by omega) (nI_add k 1)
      have i2 : vp_in (nI k + 2) L := pk_in (k + 2) L (by omega) (nI_add k 2)
      have i3 : vp_in (nI k + 3) L := pk_in (k + 3) L (by omega) (nI_add k 3)
      refine ⟨i0, i1, i2, i3, hq _ ⟨i0, i1, i2, i3, hq _ (br_t rfl (nm_r (nI_add k 4) ?_))⟩⟩
      exact ih (k + 4) _ _ _ _ _ _ _ _ _ _ _ _ _ _ _ (by omega) (by omega) (qv_G_mono hG' (by omega))
theorem qv_G_0 : qv_G 0 (0, 0, 0, 0, 0, (fun _ => 0), (fun _ => 0), (fun _ => 0), (fun _ => 0), (fun _ => 0), (fun _ => 0), (fun _ => 0), (fun _ => 0), (fun _ => 0), (fun _ => 0)) := by
  have e0 : qv_cnt (fun _ => (0 : Int32)) 24 = 0 := by decide
  refine ⟨0, 0, 0, 0, fun _ => 0, fun _ => [], fun _ => 0, fun _ => 0, fun _ => 0, fun _ => 0, fun _ => 0, fun _ => 0, fun _ => 0, fun _ => 0, fun _ => 0, fun _ => 0, ?_, ⟨qv_T_0, ⟨by omega, fun i hi => absurd hi (by omega), fun i j _ hj => absurd hj (by omega)⟩, ⟨fun i hi => absurd hi (by omega), fun k h => absurd rfl h⟩, ⟨fun k => List.nodup_nil, fun k k' v h => absurd h List.not_mem_nil, fun k v h => absurd h List.not_mem_nil, fun v _ h => absurd rfl h⟩, ⟨fun k v h => absurd h List.not_mem_nil, fun k k' v w h => absurd h List.not_mem_nil⟩, fun u _ => ⟨0, by omega, rfl⟩⟩, Nat.le_refl 0⟩
  rw [e0]
  rfl
theorem i_vc (xs : Nat → Int32) (L : Nat) (hL : L ≤ 260) : wpL_law (fun r => r = 1) L xs := by
  unfold wpL_law
  refine ⟨10, 198, by omega, by omega, ?_⟩
  refine ⟨by omega, by omega, by omega, by omega, by omega, by omega, by omega, by omega, by omega, by omega, by omega, by omega, by omega, by omega, by omega, by omega, by omega, by omega, by omega, by omega, ?_⟩
  refine ⟨by omega, by omega, 10, 198, by omega, by omega, ?_⟩
  refine ⟨by omega, by omega, by omega, by omega, by omega, by omega, by omega, by omega, by omega, by omega, by omega, by omega, by omega, by omega, by omega, by omega, by omega, by omega, by omega, by omega, ?_⟩
  exact ⟨L + 1, qv_loop hL (L + 1) 0 _ _ _ _ _ _ _ _ _ _ _ _ _ _ _ (by omega) (by omega) qv_G_0⟩
end
