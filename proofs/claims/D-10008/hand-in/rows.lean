section
/-! pure rows: trees in the child array, walks, sums, node lists -/
theorem ml_bit : ∀ key, key < 32 → ∀ b, b < 5 → (nI key >>> (nI b &&& 31)) &&& 1 = nI (key / 2 ^ b % 2) := by decide +kernel
theorem ml_sh512 : ∀ j, j < 512 → (nI j).toInt16.toInt32 = nI j := by decide +kernel
theorem ml_by128 : ∀ j, j < 128 → (nI j).toInt8.toInt32 = nI j := by decide +kernel
theorem ml_m1lt : (-1 : Int32) < 0 := by decide
theorem ml_two (j s : Nat) : 2 * nI j + nI s = nI (2 * j + s) := by
  rw [show (2 : Int32) = nI 2 from rfl, pk_mul, nI_add]
theorem ml_two0 (j : Nat) : 2 * nI j = nI (2 * j) := by
  rw [show (2 : Int32) = nI 2 from rfl, pk_mul]
theorem ml_m6 {l : Nat} (h : l < 2 ^ 31) : nI l - nI l / 6 * 6 = nI (l % 6) := pk_rem h (by decide) (by decide)
theorem ml_m6c {l : Nat} (h : l < 2 ^ 31) : (nI l - nI l / 6 * 6).toNatClampNeg = l % 6 := by
  rw [ml_m6 h]
  exact nI_clamp (by omega)
theorem ml_m6i {l : Nat} (h : l < 2 ^ 31) : vp_in (nI l - nI l / 6 * 6) 6 := by
  rw [ml_m6 h]
  exact vp_in_nI (by omega) (by decide)
theorem ml_60 : ¬ (6 : Int32) = 0 := by decide
/-- a counter that goes down to -1 -/
def ml_bc : Nat → Int32
  | 0 => -1
  | b + 1 => nI b
theorem ml_bc1 (b : Nat) : nI b + (-1) = ml_bc b := by
  cases b with
  | zero => rfl
  | succ b => exact pk_m1 b
/-- a tree of height h: -1, or a node of P with two trees of height h - 1 -/
def ml_T (c : Nat → Int32) (P : Nat → Prop) : Nat → Int32 → Prop
  | 0, n => n = -1
  | h + 1, n => n = -1 ∨ ∃ j, j < 512 ∧ n = nI j ∧ P j ∧ ml_T c P h (c (2 * j)) ∧ ml_T c P h (c (2 * j + 1))
theorem ml_T_m1 {c : Nat → Int32} {P : Nat → Prop} (h : Nat) : ml_T c P h (-1) := by
  cases h with
  | zero => rfl
  | succ h => exact Or.inl rfl
theorem ml_T_cases {c : Nat → Int32} {P : Nat → Prop} {h : Nat} {n : Int32} (t : ml_T c P h n) : n = -1 ∨ ∃ j, j < 512 ∧ n = nI j ∧ P j := by
  cases h with
  | zero => exact Or.inl t
  | succ h =>
    rcases t with t | ⟨j, hj, e, p, _, _⟩
    · exact Or.inl t
    · exact Or.inr ⟨j, hj, e, p⟩
theorem ml_T_side {c : Nat → Int32} {P : Nat → Prop} {h j : Nat} (h0 : ml_T c P h (c (2 * j))) (h1 : ml_T c P h (c (2 * j + 1))) {s : Nat} (hs : s < 2) : ml_T c P h (c (2 * j + s)) := by
  have : s = 0 ∨ s = 1 := by omega
  rcases this with rfl | rfl
  · exact h0
  · exact h1
theorem ml_T_sh {c : Nat → Int32} {P : Nat → Prop} {h : Nat} {n : Int32} (t : ml_T c P h n) : n.toInt16.toInt32 = n := by
  rcases ml_T_cases t with rfl | ⟨j, hj, rfl, _⟩
  · decide
  · exact ml_sh512 j hj
theorem ml_T_nar {c : Nat → Int32} {P : Nat → Prop} {h : Nat} {n : Int32} (t : ml_T c P h n) : vp_nar .short n = n := by
  rw [vp_nar_short]
  exact ml_T_sh t
theorem ml_T_mono {c c' : Nat → Int32} {P P' : Nat → Prop} (H : ∀ j, j < 512 → P j → P' j ∧ c' (2 * j) = c (2 * j) ∧ c' (2 * j + 1) = c (2 * j + 1)) : ∀ (h : Nat) (n : Int32), ml_T c P h n → ml_T c' P' h n := by
  intro h
  induction h with
  | zero => intro n t; exact t
  | succ h ih =>
    intro n t
    rcases t with t | ⟨j, hj, e, p, t0, t1⟩
    · exact Or.inl t
    · obtain ⟨p', e0, e1⟩ := H j hj p
      refine Or.inr ⟨j, hj, e, p', ?_, ?_⟩
      · rw [e0]; exact ih _ t0
      · rw [e1]; exact ih _ t1
/-- the walk down: b bits of a key -/
def ml_lf (c : Nat → Int32) (key : Nat) : Nat → Int32 → Int32
  | 0, n => n
  | b + 1, n => if n < 0 then n else ml_lf c key b (c (2 * n.toNatClampNeg + key / 2 ^ b % 2))
theorem ml_lf_m1 (c : Nat → Int32) (key b : Nat) : ml_lf c key b (-1) = -1 := by
  cases b with
  | zero => rfl
  | succ b => exact if_pos ml_m1lt
theorem ml_lf_nI (c : Nat → Int32) (key b : Nat) {j : Nat} (hj : j < 512) : ml_lf c key (b + 1) (nI j) = ml_lf c key b (c (2 * j + key / 2 ^ b % 2)) := by
  show (if nI j < 0 then nI j else ml_lf c key b (c (2 * (nI j).toNatClampNeg + key / 2 ^ b % 2))) = _
  rw [if_neg (nI_pos (by omega)), nI_clamp (by omega)]
theorem ml_lf_T {c : Nat → Int32} {P : Nat → Prop} {key h : Nat} : ∀ (b : Nat) (n : Int32), ml_T c P (h + b) n → ml_T c P h (ml_lf c key b n) := by
  intro b
  induction b with
  | zero => intro n t; exact t
  | succ b ih =>
    intro n t
    rcases t with rfl | ⟨j, hj, rfl, _, t0, t1⟩
    · rw [ml_lf_m1]; exact ml_T_m1 h
    · rw [ml_lf_nI c key b hj]
      exact ih _ (ml_T_side t0 t1 (by omega))
theorem ml_lf_fr {c c' : Nat → Int32} {P : Nat → Prop} {key h : Nat} (H : ∀ j, j < 512 → P j → c' (2 * j) = c (2 * j) ∧ c' (2 * j + 1) = c (2 * j + 1)) : ∀ (b : Nat) (n : Int32), ml_T c P (h + b) n → ml_lf c' key b n = ml_lf c key b n := by
  intro b
  induction b with
  | zero => intro n t; rfl
  | succ b ih =>
    intro n t
    rcases t with rfl | ⟨j, hj, rfl, p, t0, t1⟩
    · rw [ml_lf_m1, ml_lf_m1]
    · rw [ml_lf_nI c key b hj, ml_lf_nI c' key b hj]
      have e : c' (2 * j + key / 2 ^ b % 2) = c (2 * j + key / 2 ^ b % 2) := by
        have : key / 2 ^ b % 2 = 0 ∨ key / 2 ^ b % 2 = 1 := by omega
        rcases this with q | q
        · rw [q]; exact (H j hj p).1
        · rw [q]; exact (H j hj p).2
      rw [e]
      exact ih _ (ml_T_side t0 t1 (by omega))
/-- what has, at, size and sum answer of a root -/
def ml_has (c a3 : Nat → Int32) (r : Int32) (key : Nat) : Int32 :=
  if ml_lf c key 5 r < 0 then 0 else if a3 (ml_lf c key 5 r).toNatClampNeg = 0 then 0 else 1
def ml_at (c a2 a3 : Nat → Int32) (r : Int32) (key : Nat) : Int32 :=
  if ml_has c a3 r key = 0 then 0 else a2 (ml_lf c key 5 r).toNatClampNeg
def ml_sz (c a3 : Nat → Int32) (r : Int32) : Nat → Int32
  | 0 => 0
  | k + 1 => if ml_has c a3 r k = 0 then ml_sz c a3 r k else ml_sz c a3 r k + 1
def ml_hs (c a2 a3 : Nat → Int32) (r : Int32) : Nat → Int32
  | 0 => ml_sz c a3 r 32
  | k + 1 => if ml_has c a3 r k = 0 then ((31 * ml_hs c a2 a3 r k) + (2 * ml_at c a2 a3 r k)) + 0 else ((31 * ml_hs c a2 a3 r k) + (2 * ml_at c a2 a3 r k)) + 1
def ml_sum (c a2 a3 : Nat → Int32) (r : Int32) : Int32 := ml_hs c a2 a3 r 32
/-- nothing has changed in the nodes of P -/
def ml_fr (P : Nat → Prop) (c a2 a3 c' a2' a3' : Nat → Int32) : Prop :=
  ∀ j, j < 512 → P j → c' (2 * j) = c (2 * j) ∧ c' (2 * j + 1) = c (2 * j + 1) ∧ a2' j = a2 j ∧ a3' j = a3 j
theorem ml_fr_refl {P : Nat → Prop} {c a2 a3 : Nat → Int32} : ml_fr P c a2 a3 c a2 a3 := fun _ _ _ => ⟨rfl, rfl, rfl, rfl⟩
theorem ml_fr_trans {P P' : Nat → Prop} {c a2 a3 c' a2' a3' c'' a2'' a3'' : Nat → Int32} (h : ml_fr P c a2 a3 c' a2' a3') (h' : ml_fr P' c' a2' a3' c'' a2'' a3'') (hp : ∀ j, P j → P' j) : ml_fr P c a2 a3 c'' a2'' a3'' := by
  intro j hj p
  obtain ⟨e1, e2, e3, e4⟩ := h j hj p
  obtain ⟨d1, d2, d3, d4⟩ := h' j hj (hp j p)
  exact ⟨d1.trans e1, d2.trans e2, d3.trans e3, d4.trans e4⟩
theorem ml_fr_T {P P' : Nat → Prop} {c a2 a3 c' a2' a3' : Nat → Int32} (h : ml_fr P c a2 a3 c' a2' a3') (hp : ∀ j, P j → P' j) {k : Nat} {n : Int32} (t : ml_T c P k n) : ml_T c' P' k n :=
  ml_T_mono (fun j hj p => ⟨hp j p, (h j hj p).1, (h j hj p).2.1⟩) k n t
theorem ml_fr_lf {P : Nat → Prop} {c a2 a3 c' a2' a3' : Nat → Int32} (h : ml_fr P c a2 a3 c' a2' a3') {k b key : Nat} {n : Int32} (t : ml_T c P (k + b) n) : ml_lf c' key b n = ml_lf c key b n :=
  ml_lf_fr (fun j hj p => ⟨(h j hj p).1, (h j hj p).2.1⟩) b n t
theorem ml_fr_has {P : Nat → Prop} {c a2 a3 c' a2' a3' : Nat → Int32} (h : ml_fr P c a2 a3 c' a2' a3') {r : Int32} (t : ml_T c P 6 r) (key : Nat) : ml_has c' a3' r key = ml_has c a3 r key := by
  unfold ml_has
  rw [ml_fr_lf (k := 1) h t]
  rcases ml_T_cases (ml_lf_T (key := key) (h := 1) 5 r t) with e | ⟨j, hj, e, p⟩
  · rw [e]; rfl
  · rw [e, nI_clamp (by omega), (h j hj p).2.2.2]
theorem ml_fr_at {P : Nat → Prop} {c a2 a3 c' a2' a3' : Nat → Int32} (h : ml_fr P c a2 a3 c' a2' a3') {r : Int32} (t : ml_T c P 6 r) (key : Nat) : ml_at c' a2' a3' r key = ml_at c a2 a3 r key := by
  unfold ml_at
  rw [ml_fr_has h t key]
  rcases ml_T_cases (ml_lf_T (key := key) (h := 1) 5 r t) with e | ⟨j, hj, e, p⟩
  · have z : ml_has c a3 r key = 0 := by
      unfold ml_has
      rw [e]
      exact if_pos ml_m1lt
    rw [if_pos z, if_pos z]
  · rw [ml_fr_lf (k := 1) h t, e, nI_clamp (by omega), (h j hj p).2.2.1]
theorem ml_fr_sz {P : Nat → Prop} {c a2 a3 c' a2' a3' : Nat → Int32} (h : ml_fr P c a2 a3 c' a2' a3') {r : Int32} (t : ml_T c P 6 r) (k : Nat) : ml_sz c' a3' r k = ml_sz c a3 r k := by
  induction k with
  | zero => rfl
  | succ k ih =>
    unfold ml_sz
    rw [ml_fr_has h t k, ih]
theorem ml_fr_sum {P : Nat → Prop} {c a2 a3 c' a2' a3' : Nat → Int32} (h : ml_fr P c a2 a3 c' a2' a3') {r : Int32} (t : ml_T c P 6 r) : ml_sum c' a2' a3' r = ml_sum c a2 a3 r := by
  have g : ∀ k, ml_hs c' a2' a3' r k = ml_hs c a2 a3 r k := by
    intro k
    induction k with
    | zero => exact ml_fr_sz h t 32
    | succ k ih =>
      unfold ml_hs
      rw [ml_fr_has h t k, ml_fr_at h t k, ih]
  exact g 32
/-- the nodes of a tree, as a list -/
def ml_N (c : Nat → Int32) : Nat → Int32 → List Nat
  | 0, _ => []
  | h + 1, n => if n < 0 then [] else n.toNatClampNeg :: (ml_N c h (c (2 * n.toNatClampNeg)) ++ ml_N c h (c (2 * n.toNatClampNeg + 1)))
theorem ml_N_nI (c : Nat → Int32) (h : Nat) {j : Nat} (hj : j < 512) : ml_N c (h + 1) (nI j) = j :: (ml_N c h (c (2 * j)) ++ ml_N c h (c (2 * j + 1))) := by
  show (if nI j < 0 then [] else (nI j).toNatClampNeg :: (ml_N c h (c (2 * (nI j).toNatClampNeg)) ++ ml_N c h (c (2 * (nI j).toNatClampNeg + 1)))) = _
  rw [if_neg (nI_pos (by omega)), nI_clamp (by omega)]
theorem ml_N_m1 (c : Nat → Int32) (h : Nat) : ml_N c h (-1) = [] := by
  cases h with
  | zero => rfl
  | succ h => exact if_pos ml_m1lt
theorem ml_N_len (c : Nat → Int32) : ∀ (h : Nat) (n : Int32), (ml_N c h n).length + 1 ≤ 2 ^ h := by
  intro h
  induction h with
  | zero => intro n; exact Nat.le_refl 1
  | succ h ih =>
    intro n
    unfold ml_N
    split
    · exact Nat.one_le_two_pow
    · rw [List.length_cons, List.length_append, Nat.pow_succ]
      have := ih (c (2 * n.toNatClampNeg))
      have := ih (c (2 * n.toNatClampNeg + 1))
      omega
theorem ml_flat_len (c : Nat → Int32) (R : List Int32) : (R.flatMap (ml_N c 6)).length ≤ 63 * R.length := by
  induction R with
  | nil => exact Nat.le_refl 0
  | cons r R ih =>
    rw [List.flatMap_cons, List.length_append, List.length_cons]
    have : (ml_N c 6 r).length + 1 ≤ 64 := ml_N_len c 6 r
    omega
/-- how many of the first m are marked -/
def ml_cnt (f : Nat → Int32) : Nat → Nat
  | 0 => 0
  | m + 1 => if f m = 0 then ml_cnt f m else ml_cnt f m + 1
theorem ml_cnt_0 {f : Nat → Int32} {m : Nat} (h : ∀ j, j < m → f j = 0) : ml_cnt f m = 0 := by
  induction m with
  | zero => rfl
  | succ m ih =>
    unfold ml_cnt
    rw [if_pos (h m (by omega))]
    exact ih (fun j hj => h j (by omega))
theorem ml_cnt_u {f : Nat → Int32} (x m : Nat) : ml_cnt f m ≤ ml_cnt (upd f x 0) m + (if x < m then 1 else 0) := by
  induction m with
  | zero => exact Nat.zero_le _
  | succ m ih =>
    unfold ml_cnt
    by_cases e : m = x
    · rw [e, if_pos (pk_us (f := f) (k := x) (x := 0)), if_pos (show x < x + 1 by omega)]
      rw [e, if_neg (show ¬ x < x by omega)] at ih
      split <;> omega
    · rw [pk_un e]
      have q : (if x < m then 1 else 0) ≤ (if x < m + 1 then 1 else (0 : Nat)) := by
        split <;> split <;> omega
      split <;> omega
theorem ml_cnt_le : ∀ (R : List Nat) (f : Nat → Int32) (m : Nat), (∀ j, j < m → f j ≠ 0 → j ∈ R) → ml_cnt f m ≤ R.length := by
  intro R
  induction R with
  | nil =>
    intro f m h
    rw [ml_cnt_0 (fun j hj => Decidable.byContradiction (fun z => absurd (h j hj z) (List.not_mem_nil)))]
    exact Nat.le_refl 0
  | cons x R ih =>
    intro f m h
    have q := ml_cnt_u (f := f) x m
    have p := ih (upd f x 0) m (fun j hj z => by
      by_cases e : j = x
      · rw [e, pk_us] at z
        exact absurd rfl z
      · rw [pk_un e] at z
        rcases List.mem_cons.mp (h j hj z) with y | y
        · exact absurd y e
        · exact y)
    rw [List.length_cons]
    split at q <;> omega
end
section
/-! what reads: leafOf, isKept, has, size, at, sum, check, placeOf, inView -/
section
variable {f l g : Int32} {a1 a2 a3 a4 a5 a6 a7 a8 a9 a10 a11 a12 a13 a14 a15 a16 a17 a18 : Nat → Int32}
theorem ml_leaf5 {post : Int32 → Prop} {P : Nat → Prop} {key : Nat} (hk : key < 32) : ∀ (b : Nat) (n : Int32), b ≤ 5 → ml_T a1 P (b + 1) n → post (ml_lf a1 key b n) → wX_leafOf_5 post (nI key) f l g a1 a2 a3 a4 a5 a6 a7 a8 a9 a10 a11 a12 a13 a14 a15 a16 a17 a18 (b + 1) n (ml_bc b) := by
  intro b
  induction b with
  | zero =>
    intro n _ _ hp
    exact br_t (show (-1 : Int32) < 0 from ml_m1lt) hp
  | succ b ih =>
    intro n hb t hp
    refine br_f (nI_pos (n := b) (by omega)) ?_
    rcases t with rfl | ⟨j, hj, rfl, _, t0, t1⟩
    · rw [ml_lf_m1] at hp
      exact br_t ml_m1lt hp
    · rw [ml_lf_nI a1 key b hj] at hp
      have e : 2 * nI j + ((nI key >>> (nI b &&& 31)) &&& 1) = nI (2 * j + key / 2 ^ b % 2) := by
        rw [ml_bit key hk b (by omega), ml_two]
      exact br_f (nI_pos (by omega)) ⟨pk_in (2 * j + key / 2 ^ b % 2) 1024 (by omega) e, nm_r (congrArg a1 (pk_cl _ e)) (nm_r (ml_bc1 b) (ih _ (by omega) (ml_T_side t0 t1 (by omega)) hp))⟩
theorem ml_leaf {post : Int32 → Prop} {P : Nat → Prop} {key : Nat} {root : Int32} (hk : key < 32) (t : ml_T a1 P 6 root) (H : post (ml_lf a1 key 5 root)) : wpX_leafOf post (f, l, g, a1, a2, a3, a4, a5, a6, a7, a8, a9, a10, a11, a12, a13, a14, a15, a16, a17, a18) root (nI key) :=
  ⟨6, ml_leaf5 hk 5 root (by omega) t H⟩
theorem ml_leaf1 {c : Nat → Int32} {P : Nat → Prop} {root : Int32} (t : ml_T c P 6 root) (key : Nat) : ml_lf c key 5 root = -1 ∨ ∃ j, j < 512 ∧ ml_lf c key 5 root = nI j ∧ P j :=
  ml_T_cases (ml_lf_T (h := 1) 5 root t)
theorem ml_k6 {s l : Nat} (h : l < s + 6) (hl : l < 2 ^ 30) (hs : s < 2 ^ 30) : ¬ nI s ≤ nI l - 6 := by
  rw [Int32.le_iff_toInt_le, show (6 : Int32) = nI 6 from rfl, pk_sub_toInt hl (by decide), nI_toInt (by omega)]
  omega
theorem ml_kept {post : Int32 → Prop} {s lt : Nat} (h1 : s ≤ lt) (h2 : lt < s + 6) (hl : lt < 2 ^ 30) (H : post 1) : wpX_isKept post (f, nI lt, g, a1, a2, a3, a4, a5, a6, a7, a8, a9, a10, a11, a12, a13, a14, a15, a16, a17, a18) (nI s) :=
  br_f (nI_pos (by omega)) (br_f (nI_nlt h1 (by omega)) (br_f (ml_k6 h2 hl (by omega)) H))
/-- the leaf's answer: -1 or a place without a value: 0; else 1 -/
theorem ml_has_b {post : Int32 → Prop} {P : Nat → Prop} {key : Nat} {root : Int32} (t : ml_T a1 P 6 root) (H : post (ml_has a1 a3 root key)) :
    ((ml_lf a1 key 5 root < 0 → (post 0)) ∧ (¬ ml_lf a1 key 5 root < 0 → (vp_in (ml_lf a1 key 5 root) 512 ∧ ((((a3 (ml_lf a1 key 5 root).toNatClampNeg) = 0 → (post 0)) ∧ (¬ (a3 (ml_lf a1 key 5 root).toNatClampNeg) = 0 → (post 1))))))) := by
  unfold ml_has at H
  rcases ml_leaf1 t key with e | ⟨j, hj, e, _⟩
  · rw [e] at H ⊢
    rw [if_pos ml_m1lt] at H
    exact br_t ml_m1lt H
  · rw [e] at H ⊢
    rw [if_neg (nI_pos (by omega))] at H
    refine br_f (nI_pos (by omega)) ⟨vp_in_nI hj (by decide), ?_⟩
    exact br_c (fun z => by rw [if_pos z] at H; exact H) (fun z => by rw [if_neg z] at H; exact H)
theorem ml_hasw {post : Int32 → Prop} {P : Nat → Prop} {s lt key : Nat} (h1 : s ≤ lt) (h2 : lt < s + 6) (hl : lt < 2 ^ 30) (hk : key < 32) (t : ml_T a1 P 6 (a7 (s % 6))) (H : post (ml_has a1 a3 (a7 (s % 6)) key)) : wpX_has post (f, nI lt, g, a1, a2, a3, a4, a5, a6, a7, a8, a9, a10, a11, a12, a13, a14, a15, a16, a17, a18) (nI s) (nI key) := by
  unfold wpX_has
  refine ml_kept h1 h2 hl (br_f (by decide) (br_f (nI_pos (by omega)) (br_t (nI_le (b := 31) (by omega) (by decide)) ⟨ml_60, ml_m6i (by omega), ?_⟩)))
  rw [ml_m6c (by omega)]
  exact ml_leaf hk t (ml_has_b t H)
theorem ml_szw {post : Int32 → Prop} {P : Nat → Prop} {s lt : Nat} (h1 : s ≤ lt) (h2 : lt < s + 6) (hl : lt < 2 ^ 30) (t : ml_T a1 P 6 (a7 (s % 6))) (H : post (ml_sz a1 a3 (a7 (s % 6)) 32)) : ∃ n, wX_size_29 post (nI s) f (nI lt) g a1 a2 a3 a4 a5 a6 a7 a8 a9 a10 a11 a12 a13 a14 a15 a16 a17 a18 n 0 0 :=
  pk_loop (σ := Unit) (fun n i _ => wX_size_29 post (nI s) f (nI lt) g a1 a2 a3 a4 a5 a6 a7 a8 a9 a10 a11 a12 a13 a14 a15 a16 a17 a18 n (ml_sz a1 a3 (a7 (s % 6)) i) (nI i)) (fun _ _ => True) 32 0 () (by omega) trivial
    (fun n _ _ => pk_le 32 32 (fun _ => H) (fun z => absurd z (by omega)))
    (fun n i _ hi _ hw => pk_le 32 i (fun z => absurd z (by omega)) (fun _ => ml_hasw h1 h2 hl hi t (by
      have w := hw () trivial
      unfold ml_sz at w
      exact br_c (fun z => nm_r (nI_1 i) (by rw [if_pos z] at w; exact w)) (fun z => nm_e (nm_r (nI_1 i) (by rw [if_neg z] at w; exact w))))))
theorem ml_sizew {post : Int32 → Prop} {P : Nat → Prop} {s lt : Nat} (h1 : s ≤ lt) (h2 : lt < s + 6) (hl : lt < 2 ^ 30) (t : ml_T a1 P 6 (a7 (s % 6))) (H : post (ml_sz a1 a3 (a7 (s % 6)) 32)) : wpX_size post (f, nI lt, g, a1, a2, a3, a4, a5, a6, a7, a8, a9, a10, a11, a12, a13, a14, a15, a16, a17, a18) (nI s) := by
  unfold wpX_size
  exact br_f (nI_pos (by omega)) (br_t (nI_le h1 (by omega)) (ml_kept h1 h2 hl (br_f (by decide) (ml_szw h1 h2 hl t H))))
theorem ml_atw {post : Int32 → Prop} {P : Nat → Prop} {s lt key : Nat} (h1 : s ≤ lt) (h2 : lt < s + 6) (hl : lt < 2 ^ 30) (hk : key < 32) (t : ml_T a1 P 6 (a7 (s % 6))) (H : post (ml_at a1 a2 a3 (a7 (s % 6)) key)) : wpX_at post (f, nI lt, g, a1, a2, a3, a4, a5, a6, a7, a8, a9, a10, a11, a12, a13, a14, a15, a16, a17, a18) (nI s) (nI key) := by
  unfold wpX_at
  refine ml_hasw h1 h2 hl hk t (br_c (fun z => ?_) (fun z => ⟨ml_60, ml_m6i (by omega), ?_⟩))
  · unfold ml_at at H
    rw [if_pos z] at H
    exact H
  · rw [ml_m6c (by omega)]
    refine ml_leaf hk t ?_
    unfold ml_at at H
    rw [if_neg z] at H
    rcases ml_leaf1 t key with e | ⟨j, hj, e, _⟩
    · refine absurd ?_ z
      unfold ml_has
      rw [e]
      exact if_pos ml_m1lt
    · refine ⟨?_, H⟩
      rw [e]
      exact vp_in_nI hj (by decide)
theorem ml_hsw {post : Int32 → Prop} {P : Nat → Prop} {s lt : Nat} (h1 : s ≤ lt) (h2 : lt < s + 6) (hl : lt < 2 ^ 30) (t : ml_T a1 P 6 (a7 (s % 6))) (H : post (ml_hs a1 a2 a3 (a7 (s % 6)) 32)) : ∃ n, wL_sum_8 post (nI s) f (nI lt) g a1 a2 a3 a4 a5 a6 a7 a8 a9 a10 a11 a12 a13 a14 a15 a16 a17 a18 n (ml_sz a1 a3 (a7 (s % 6)) 32) 0 :=
  pk_loop (σ := Unit) (fun n i _ => wL_sum_8 post (nI s) f (nI lt) g a1 a2 a3 a4 a5 a6 a7 a8 a9 a10 a11 a12 a13 a14 a15 a16 a17 a18 n (ml_hs a1 a2 a3 (a7 (s % 6)) i) (nI i)) (fun _ _ => True) 32 0 () (by omega) trivial
    (fun n _ _ => pk_le 32 32 (fun _ => H) (fun z => absurd z (by omega)))
    (fun n i _ hi _ hw => pk_le 32 i (fun z => absurd z (by omega)) (fun _ => ml_atw h1 h2 hl hi t (ml_hasw h1 h2 hl hi t (by
      have w := hw () trivial
      unfold ml_hs at w
      exact br_c (fun z => nm_e (nm_r (nI_1 i) (by rw [if_pos z] at w; exact w))) (fun z => nm_e (nm_r (nI_1 i) (by rw [if_neg z] at w; exact w)))))))
theorem ml_sumw {post : Int32 → Prop} {P : Nat → Prop} {s lt : Nat} (h1 : s ≤ lt) (h2 : lt < s + 6) (hl : lt < 2 ^ 30) (t : ml_T a1 P 6 (a7 (s % 6))) (H : post (ml_sum a1 a2 a3 (a7 (s % 6)))) : wpL_sum post (f, nI lt, g, a1, a2, a3, a4, a5, a6, a7, a8, a9, a10, a11, a12, a13, a14, a15, a16, a17, a18) (nI s) := by
  unfold wpL_sum
  exact ml_sizew h1 h2 hl t (ml_hsw h1 h2 hl t H)
theorem ml_check {post : Int32 → Prop} {t lo hi : Nat} (ht : t < 4) (h1 : lo ≤ hi) (h2 : hi < 32) (H0 : a8 t = 0 → post (-3)) (H1 : ¬ a8 t = 0 → post 0) : wpX_check post (f, l, g, a1, a2, a3, a4, a5, a6, a7, a8, a9, a10, a11, a12, a13, a14, a15, a16, a17, a18) (nI t) (nI lo) (nI hi) := by
  refine br_f (nI_pos (by omega)) (br_f (nI_nlt (a := 3) (b := t) (by omega) (by decide)) (br_f (nI_pos (by omega)) (br_f (nI_nlt (a := 31) (b := hi) (by omega) (by decide)) (br_t (nI_le h1 (by omega)) ⟨vp_in_nI ht (by decide), ?_⟩))))
  rw [nI_clamp (by omega)]
  exact br_c H0 H1
theorem ml_place5 {post : Int32 → Prop} {t w : Nat} {k : Int32} (ht : t < 4) (hw : a12 t = nI w) (w6 : w ≤ 6) (H : ∀ r, (r = -1 ∨ ∃ i, i < w ∧ r = nI (6 * t + i)) → post r) : ∃ n, wX_placeOf_5 post (nI t) k f l g a1 a2 a3 a4 a5 a6 a7 a8 a9 a10 a11 a12 a13 a14 a15 a16 a17 a18 n (nI (6 * t)) := by
  have e : 6 * nI t + a12 (nI t).toNatClampNeg = nI (6 * t + w) := by
    rw [nI_clamp (by omega), hw, show (6 : Int32) = nI 6 from rfl, pk_mul, nI_add]
  exact pk_loop (σ := Unit) (fun n i _ => wX_placeOf_5 post (nI t) k f l g a1 a2 a3 a4 a5 a6 a7 a8 a9 a10 a11 a12 a13 a14 a15 a16 a17 a18 n (nI i)) (fun i _ => 6 * t ≤ i) (6 * t + w) (6 * t) () (by omega) (Nat.le_refl _)
    (fun n _ _ => ⟨vp_in_nI ht (by decide), pk_le (6 * t + w) (6 * t + w) (fun _ => H (-1) (Or.inl rfl)) (fun z => absurd z (by omega)) e⟩)
    (fun n i _ hi h0 hn => ⟨vp_in_nI ht (by decide), pk_le (6 * t + w) i (fun z => absurd z (by omega)) (fun _ => ⟨vp_in_nI (by omega) (by decide), br_c (fun _ => H _ (Or.inr ⟨i - 6 * t, by omega, by rw [show 6 * t + (i - 6 * t) = i by omega]⟩)) (fun _ => nm_r (nI_1 i) (hn () (by omega)))⟩) e⟩)
theorem ml_place {post : Int32 → Prop} {t w : Nat} {k : Int32} (ht : t < 4) (hw : a12 t = nI w) (w6 : w ≤ 6) (H : ∀ r, (r = -1 ∨ ∃ i, i < w ∧ r = nI (6 * t + i)) → post r) : wpX_placeOf post (f, l, g, a1, a2, a3, a4, a5, a6, a7, a8, a9, a10, a11, a12, a13, a14, a15, a16, a17, a18) (nI t) k :=
  nm_r (show 6 * nI t = nI (6 * t) from by rw [show (6 : Int32) = nI 6 from rfl, pk_mul]) (ml_place5 ht hw w6 H)
theorem ml_nb {x : Int32} (h : x = 0 ∨ x = 1) : narrow .boolean (.int x) = .int x := by
  rcases h with rfl | rfl
  · rfl
  · rfl
theorem ml_vnb {x : Int32} (h : x = 0 ∨ x = 1) : vp_nar .boolean x = x := by
  rcases h with rfl | rfl
  · rfl
  · rfl
theorem ml_view {post : Int32 → Prop} {P : Nat → Prop} {t w key : Nat} (ht : t < 4) (hk : key < 32) (hw : a12 t = nI w) (w6 : w ≤ 6) (h15 : ∀ j, j < 24 → a15 j = 0 ∨ a15 j = 1) (T : ml_T a1 P 6 (a10 t)) (H : ∀ r, (w = 0 → r = ml_has a1 a3 (a10 t) key) → post r) : wpX_inView post (f, l, g, a1, a2, a3, a4, a5, a6, a7, a8, a9, a10, a11, a12, a13, a14, a15, a16, a17, a18) (nI t) (nI key) := by
  unfold wpX_inView
  refine ml_place ht hw w6 (fun r hr => ?_)
  rcases hr with rfl | ⟨i, hi, rfl⟩
  · refine br_t ml_m1lt ⟨vp_in_nI ht (by decide), ?_⟩
    rw [nI_clamp (by omega)]
    exact ml_leaf hk T (ml_has_b T (H _ (fun _ => rfl)))
  · refine br_f (nI_pos (by omega)) ⟨vp_in_nI (by omega) (by decide), ?_, H _ (fun z => absurd hi (by omega))⟩
    rw [nI_clamp (by omega)]
    exact ml_nb (h15 _ (by omega))
end
end
section
/-! begin, put, write, erase, read, countRange -/
section
variable {f l g : Int32} {a1 a2 a3 a4 a5 a6 a7 a8 a9 a10 a11 a12 a13 a14 a15 a16 a17 a18 : Nat → Int32}
/-- the places of the writes -/
def ml_W (a12 a13 a15 : Nat → Int32) : Prop := (∀ t, t < 4 → ∃ w, w ≤ 6 ∧ a12 t = nI w) ∧ (∀ j, j < 24 → ∃ k, k < 32 ∧ a13 j = nI k) ∧ (∀ j, j < 24 → a15 j = 0 ∨ a15 j = 1)
theorem ml_begin {post : Int32 → St1 → Prop} {P : Nat → Prop} {t lt : Nat} (ht : t < 4) (hl : lt < 2 ^ 30) (T : ml_T a1 P 6 (a7 (lt % 6))) (H0 : ¬ a8 t = 0 → post (-2) (f, nI lt, g, a1, a2, a3, a4, a5, a6, a7, a8, a9, a10, a11, a12, a13, a14, a15, a16, a17, a18))
    (H1 : a8 t = 0 → post (nI lt) (f, nI lt, g, a1, a2, a3, a4, a5, a6, a7, upd a8 t 1, upd a9 t (nI lt), upd a10 t (a7 (lt % 6)), upd a11 t 0, upd a12 t 0, a13, a14, a15, a16, a17, a18)) : wpX_begin post (f, nI lt, g, a1, a2, a3, a4, a5, a6, a7, a8, a9, a10, a11, a12, a13, a14, a15, a16, a17, a18) (nI t) := by
  refine br_f (nI_pos (by omega)) (br_t (nI_le (b := 3) (by omega) (by decide)) ⟨vp_in_nI ht (by decide), ?_⟩)
  rw [nI_clamp (show t < 2 ^ 31 by omega), ml_m6c (show lt < 2 ^ 31 by omega), ml_T_nar T]
  have i4 := vp_in_nI ht (show 4 < 2 ^ 31 by decide)
  exact br_c (fun z => ⟨i4, nm_e ⟨i4, nm_e ⟨ml_60, ml_m6i (by omega), i4, nm_e ⟨i4, nm_e ⟨i4, nm_e (H1 z)⟩⟩⟩⟩⟩) H0
theorem ml_put77 {post : Int32 → St1 → Prop} {t w : Nat} {v b : Int32} (ht : t < 4) (hw : w < 24) (hb : b = 0 ∨ b = 1) (H : post (a12 t) (f, l, g, a1, a2, a3, a4, a5, a6, a7, a8, a9, a10, a11, a12, a13, upd a14 w v, upd a15 w b, a16, a17, a18)) : wX_put_77 post (nI t) v b (nI w) f l g a1 a2 a3 a4 a5 a6 a7 a8 a9 a10 a11 a12 a13 a14 a15 a16 a17 a18 := by
  have i24 := vp_in_nI hw (show 24 < 2 ^ 31 by decide)
  unfold wX_put_77
  rw [nI_clamp (show t < 2 ^ 31 by omega), nI_clamp (show w < 2 ^ 31 by omega), ml_vnb hb]
  exact ⟨i24, nm_e ⟨i24, nm_e ⟨vp_in_nI ht (by decide), H⟩⟩⟩
theorem ml_put {post : Int32 → St1 → Prop} {t key : Nat} {v b : Int32} (ht : t < 4) (hk : key < 32) (hb : b = 0 ∨ b = 1) (hW : ml_W a12 a13 a15) (H0 : ∀ r, post r (f, l, g, a1, a2, a3, a4, a5, a6, a7, a8, a9, a10, a11, a12, a13, a14, a15, a16, a17, a18))
    (H : ∀ r a12' a13' a14' a15', ml_W a12' a13' a15' → post r (f, l, g, a1, a2, a3, a4, a5, a6, a7, a8, a9, a10, a11, a12', a13', a14', a15', a16, a17, a18)) : wpX_put post (f, l, g, a1, a2, a3, a4, a5, a6, a7, a8, a9, a10, a11, a12, a13, a14, a15, a16, a17, a18) (nI t) (nI key) v b := by
  obtain ⟨w1, w2, w3⟩ := hW
  obtain ⟨w, w6, hw⟩ := w1 t ht
  have i4 := vp_in_nI ht (show 4 < 2 ^ 31 by decide)
  have u3 : ∀ q, q < 24 → ∀ j, j < 24 → upd a15 q b j = 0 ∨ upd a15 q b j = 1 := by
    intro q _ j hj
    by_cases e : j = q
    · rw [e, pk_us]; exact hb
    · rw [pk_un e]; exact w3 j hj
  unfold wpX_put
  refine ml_check ht (Nat.le_refl key) hk (fun _ => br_f (by decide) (H0 _)) (fun _ => br_t rfl ?_)
  refine ml_place ht hw w6 (fun r hr => ?_)
  rcases hr with rfl | ⟨i, hi, rfl⟩
  · refine br_f (by decide) ⟨i4, ?_⟩
    rw [nI_clamp (show t < 2 ^ 31 by omega), hw]
    refine pk_lt w 6 (fun z => ⟨i4, nm_r (e' := nI (6 * t + w)) ?_ ⟨i4, i4, nm_r (e' := upd a12 t (nI (w + 1))) ?_ ⟨vp_in_nI (by omega) (by decide), nm_r (e' := upd a13 (6 * t + w) (nI key)) ?_ ?_⟩⟩⟩) (fun _ => H0 _)
    · rw [show (6 : Int32) = nI 6 from rfl, pk_mul, nI_add]
    · rw [nI_1, ml_by128 (w + 1) (by omega)]
    · rw [nI_clamp (by omega), ml_by128 key (by omega)]
    · refine ml_put77 ht (by omega) hb (H _ _ _ _ _ ⟨fun t' ht' => ?_, fun j hj => ?_, u3 _ (by omega)⟩)
      · by_cases e : t' = t
        · rw [e, pk_us]; exact ⟨w + 1, by omega, rfl⟩
        · rw [pk_un e]; exact w1 t' ht'
      · by_cases e : j = 6 * t + w
        · rw [e, pk_us]; exact ⟨key, hk, rfl⟩
        · rw [pk_un e]; exact w2 j hj
  · refine br_t (nI_pos' (by omega)) (ml_put77 ht (by omega) hb (H _ _ _ _ _ ⟨w1, w2, u3 _ (by omega)⟩))
/-- the first write of an open transaction -/
theorem ml_put0 {post : Int32 → St1 → Prop} {t key : Nat} {v b : Int32} (ht : t < 4) (hk : key < 32) (hb : b = 0 ∨ b = 1) (ho : ¬ a8 t = 0) (hw : a12 t = 0)
    (H : post 1 (f, l, g, a1, a2, a3, a4, a5, a6, a7, a8, a9, a10, a11, upd a12 t 1, upd a13 (6 * t) (nI key), upd a14 (6 * t) v, upd a15 (6 * t) b, a16, a17, a18)) : wpX_put post (f, l, g, a1, a2, a3, a4, a5, a6, a7, a8, a9, a10, a11, a12, a13, a14, a15, a16, a17, a18) (nI t) (nI key) v b := by
  have i4 := vp_in_nI ht (show 4 < 2 ^ 31 by decide)
  unfold wpX_put
  refine ml_check ht (Nat.le_refl key) hk (fun z => absurd z ho) (fun _ => br_t rfl ?_)
  refine ml_place (w := 0) ht hw (by omega) (fun r hr => ?_)
  rcases hr with rfl | ⟨i, hi, rfl⟩
  · refine br_f (by decide) ⟨i4, ?_⟩
    rw [nI_clamp (show t < 2 ^ 31 by omega), hw]
    refine br_t (by decide) ⟨i4, nm_r (e' := nI (6 * t)) ?_ ⟨i4, i4, nm_r (e' := upd a12 t 1) rfl ⟨vp_in_nI (by omega) (by decide), nm_r (e' := upd a13 (6 * t) (nI key)) ?_ ?_⟩⟩⟩
    · rw [show (6 : Int32) = nI 6 from rfl, pk_mul, show (0 : Int32) = nI 0 from rfl, nI_add]
      rfl
    · rw [nI_clamp (by omega), ml_by128 key (by omega)]
    · refine ml_put77 ht (by omega) hb ?_
      rw [pk_us]
      exact H
  · exact absurd hi (by omega)
theorem ml_write {post : Int32 → St1 → Prop} {t key : Nat} {v : Int32} (ht : t < 4) (hk : key < 32) (hW : ml_W a12 a13 a15) (H0 : ∀ r, post r (f, l, g, a1, a2, a3, a4, a5, a6, a7, a8, a9, a10, a11, a12, a13, a14, a15, a16, a17, a18))
    (H : ∀ r a12' a13' a14' a15', ml_W a12' a13' a15' → post r (f, l, g, a1, a2, a3, a4, a5, a6, a7, a8, a9, a10, a11, a12', a13', a14', a15', a16, a17, a18)) : wpX_write post (f, l, g, a1, a2, a3, a4, a5, a6, a7, a8, a9, a10, a11, a12, a13, a14, a15, a16, a17, a18) (nI t) (nI key) v := by
  unfold wpX_write
  exact ml_put ht hk (Or.inr rfl) hW H0 H
theorem ml_erase {post : Int32 → St1 → Prop} {t key : Nat} (ht : t < 4) (hk : key < 32) (hW : ml_W a12 a13 a15) (H0 : ∀ r, post r (f, l, g, a1, a2, a3, a4, a5, a6, a7, a8, a9, a10, a11, a12, a13, a14, a15, a16, a17, a18))
    (H : ∀ r a12' a13' a14' a15', ml_W a12' a13' a15' → post r (f, l, g, a1, a2, a3, a4, a5, a6, a7, a8, a9, a10, a11, a12', a13', a14', a15', a16, a17, a18)) : wpX_erase post (f, l, g, a1, a2, a3, a4, a5, a6, a7, a8, a9, a10, a11, a12, a13, a14, a15, a16, a17, a18) (nI t) (nI key) := by
  unfold wpX_erase
  exact ml_put ht hk (Or.inl rfl) hW H0 H
theorem ml_write0 {post : Int32 → St1 → Prop} {t key : Nat} {v : Int32} (ht : t < 4) (hk : key < 32) (ho : ¬ a8 t = 0) (hw : a12 t = 0)
    (H : post 1 (f, l, g, a1, a2, a3, a4, a5, a6, a7, a8, a9, a10, a11, upd a12 t 1, upd a13 (6 * t) (nI key), upd a14 (6 * t) v, upd a15 (6 * t) 1, a16, a17, a18)) : wpX_write post (f, l, g, a1, a2, a3, a4, a5, a6, a7, a8, a9, a10, a11, a12, a13, a14, a15, a16, a17, a18) (nI t) (nI key) v := by
  unfold wpX_write
  exact ml_put0 ht hk (Or.inr rfl) ho hw H
theorem ml_read {post : Int32 → St1 → Prop} {P : Nat → Prop} {t key : Nat} (ht : t < 4) (hk : key < 32) (hW : ml_W a12 a13 a15) (T : ml_T a1 P 6 (a10 t)) (H0 : a8 t = 0 → post (-3) (f, l, g, a1, a2, a3, a4, a5, a6, a7, a8, a9, a10, a11, a12, a13, a14, a15, a16, a17, a18))
    (H : ¬ a8 t = 0 → ∀ r, (r = 0 ∨ r = 1) → (a12 t = 0 → r = ml_has a1 a3 (a10 t) key) → post r (f, l, g, a1, a2, a3, a4, a5, a6, a7, a8, a9, a10, upd a11 t (a11 t ||| ((1 : Int32) <<< (nI key &&& 31))), a12, a13, a14, a15, a16, a17, a18)) : wpX_read post (f, l, g, a1, a2, a3, a4, a5, a6, a7, a8, a9, a10, a11, a12, a13, a14, a15, a16, a17, a18) (nI t) (nI key) := by
  obtain ⟨w1, w2, w3⟩ := hW
  obtain ⟨w, w6, hw⟩ := w1 t ht
  have i4 := vp_in_nI ht (show 4 < 2 ^ 31 by decide)
  unfold wpX_read
  refine ml_check ht (Nat.le_refl key) hk (fun z => br_f (by decide) (H0 z)) (fun z => br_t rfl ⟨i4, i4, ?_⟩)
  rw [nI_clamp (show t < 2 ^ 31 by omega)]
  refine nm_e (ml_view ht hk hw w6 w3 T (fun r hr => ?_))
  have hh : ml_has a1 a3 (a10 t) key = 0 ∨ ml_has a1 a3 (a10 t) key = 1 := by
    unfold ml_has
    split
    · exact Or.inl rfl
    · split
      · exact Or.inl rfl
      · exact Or.inr rfl
  have ew : a12 t = 0 → w = 0 := by
    intro q
    rw [hw, ← nI_0, nI_eq (by omega) (by omega)] at q
    exact q
  refine br_c (fun q => H z 0 (Or.inl rfl) (fun y => ?_)) (fun q => H z 1 (Or.inr rfl) (fun y => ?_))
  · rw [← hr (ew y), q]
  · rcases hh with p | p
    · exact absurd ((hr (ew y)).trans p) q
    · exact p.symm
theorem ml_range {post : Int32 → St1 → Prop} {P : Nat → Prop} {t lo hi : Nat} (ht : t < 4) (hl : lo ≤ hi) (hh : hi < 32) (hW : ml_W a12 a13 a15) (T : ml_T a1 P 6 (a10 t)) (H0 : a8 t = 0 → post (-3) (f, l, g, a1, a2, a3, a4, a5, a6, a7, a8, a9, a10, a11, a12, a13, a14, a15, a16, a17, a18))
    (H : ¬ a8 t = 0 → ∀ c a11', c ≤ 32 → (∀ j, j ≠ t → a11' j = a11 j) → post (nI c) (f, l, g, a1, a2, a3, a4, a5, a6, a7, a8, a9, a10, a11', a12, a13, a14, a15, a16, a17, a18)) : wpX_countRange post (f, l, g, a1, a2, a3, a4, a5, a6, a7, a8, a9, a10, a11, a12, a13, a14, a15, a16, a17, a18) (nI t) (nI lo) (nI hi) := by
  obtain ⟨w1, w2, w3⟩ := hW
  obtain ⟨w, w6, hw⟩ := w1 t ht
  have i4 := vp_in_nI ht (show 4 < 2 ^ 31 by decide)
  unfold wpX_countRange
  refine ml_check ht hl hh (fun z => br_f (by decide) (H0 z)) (fun z => br_t rfl ?_)
  refine pk_loop (σ := Nat × (Nat → Int32)) (fun n i s => wX_countRange_23 post (nI t) (nI hi) f l g n (nI s.1) (nI i) a1 a2 a3 a4 a5 a6 a7 a8 a9 a10 s.2 a12 a13 a14 a15 a16 a17 a18) (fun i s => s.1 ≤ i ∧ ∀ j, j ≠ t → s.2 j = a11 j) (hi + 1) lo (0, a11) (by omega) ⟨by omega, fun _ _ => rfl⟩ ?_ ?_
  · intro n s h
    exact pk_lt hi (hi + 1) (fun _ => H z s.1 s.2 (by have := h.1; omega) h.2) (fun y => absurd y (by omega))
  · intro n i s hi' h hn
    refine pk_lt hi i (fun y => absurd y (by omega)) (fun _ => ⟨i4, i4, nm_e (ml_view (w := w) ht (by omega) hw w6 w3 T (fun r _ => ?_))⟩)
    have u : ∀ j, j ≠ t → upd s.2 (nI t).toNatClampNeg (s.2 (nI t).toNatClampNeg ||| ((1 : Int32) <<< (nI i &&& 31))) j = a11 j := by
      intro j hj
      rw [nI_clamp (show t < 2 ^ 31 by omega), pk_un hj]
      exact h.2 j hj
    exact br_c (fun _ => nm_r (nI_1 i) (hn (s.1, _) ⟨by have := h.1; show s.1 ≤ i + 1; omega, u⟩)) (fun _ => nm_r (nI_1 s.1) (nm_r (nI_1 i) (hn (s.1 + 1, _) ⟨by have := h.1; show s.1 + 1 ≤ i + 1; omega, u⟩)))
end
end
section
/-! push and changedSince -/
/-- where the stack ends, and what an array of it holds, behind a push -/
def ml_pk (n : Int32) (k : Nat) : Nat := if n < 0 then k else k + 1
def ml_pu (n : Int32) (k : Nat) (a : Nat → Int32) (x : Int32) : Nat → Int32 := if n < 0 then a else upd a k x
theorem ml_pk_m1 (k : Nat) : ml_pk (-1) k = k := if_pos ml_m1lt
theorem ml_pk_nI {j : Nat} (hj : j < 512) (k : Nat) : ml_pk (nI j) k = k + 1 := if_neg (nI_pos (by omega))
theorem ml_pu_m1 (k : Nat) (a : Nat → Int32) (x : Int32) : ml_pu (-1) k a x = a := if_pos ml_m1lt
theorem ml_pu_nI {j : Nat} (hj : j < 512) (k : Nat) (a : Nat → Int32) (x : Int32) : ml_pu (nI j) k a x = upd a k x := if_neg (nI_pos (by omega))
theorem ml_pk_pos {n : Int32} (h : ¬ n < 0) (k : Nat) : ml_pk n k = k + 1 := if_neg h
theorem ml_pk_ge (n : Int32) (k : Nat) : k ≤ ml_pk n k ∧ ml_pk n k ≤ k + 1 := by
  unfold ml_pk
  split <;> omega
theorem ml_pu_lo (n : Int32) {k i : Nat} (a : Nat → Int32) (x : Int32) (h : i < k) : ml_pu n k a x i = a i := by
  unfold ml_pu
  split
  · rfl
  · exact pk_un (by omega)
theorem ml_pu_at {n : Int32} (h : ¬ n < 0) (k : Nat) (a : Nat → Int32) (x : Int32) : ml_pu n k a x k = x := by
  unfold ml_pu
  rw [if_neg h]
  exact pk_us
section
variable {f l g : Int32} {a1 a2 a3 a4 a5 a6 a7 a8 a9 a10 a11 a12 a13 a14 a15 a16 a17 a18 : Nat → Int32}
theorem ml_push {post : St1 → Prop} {c : Nat → Int32} {P : Nat → Prop} {h : Nat} {n : Int32} {k key sz : Nat} (hk : k < 16) (T : ml_T c P h n) (h1 : key < 128) (h2 : sz < 128)
    (H : post (f, l, nI (ml_pk n k), a1, a2, a3, a4, a5, a6, a7, a8, a9, a10, a11, a12, a13, a14, a15, ml_pu n k a16 n, ml_pu n k a17 (nI key), ml_pu n k a18 (nI sz))) : wpX_push post (f, l, nI k, a1, a2, a3, a4, a5, a6, a7, a8, a9, a10, a11, a12, a13, a14, a15, a16, a17, a18) n (nI key) (nI sz) := by
  rcases ml_T_cases T with rfl | ⟨j, hj, rfl, _⟩
  · rw [ml_pk_m1, ml_pu_m1, ml_pu_m1, ml_pu_m1] at H
    exact br_f (by decide) H
  · rw [ml_pk_nI hj, ml_pu_nI hj, ml_pu_nI hj, ml_pu_nI hj] at H
    have i16 := vp_in_nI hk (show 16 < 2 ^ 31 by decide)
    refine br_t (nI_pos' (by omega)) ?_
    rw [nI_clamp (show k < 2 ^ 31 by omega), ml_sh512 j hj, ml_by128 key h1, ml_by128 sz h2, nI_1]
    exact ⟨i16, nm_e ⟨i16, nm_e ⟨i16, nm_e (nm_e H)⟩⟩⟩
end
/-- the part of a set that lies below a node -/
def ml_ins (set : Int32) (key size : Nat) : Int32 := if size = 32 then set else ((set.toUInt32 >>> ((nI key).toUInt32 &&& Int32.toUInt32 31)).toInt32) &&& (((1 : Int32) <<< (nI size &&& 31)) - 1)
/-- what changedSince counts -/
def ml_cs (c a4 : Nat → Int32) (b set : Int32) : Nat → Int32 → Nat → Nat
  | 0, _, _ => 0
  | h + 1, n, key => if n < 0 then 0 else if a4 n.toNatClampNeg ≤ b then 0 else if ml_ins set key (2 ^ h) = 0 then 0 else if h = 0 then 1 else ml_cs c a4 b set h (c (2 * n.toNatClampNeg)) key + ml_cs c a4 b set h (c (2 * n.toNatClampNeg + 1)) (key + 2 ^ (h - 1))
theorem ml_cs_m1 (c a4 : Nat → Int32) (b set : Int32) (h key : Nat) : ml_cs c a4 b set h (-1) key = 0 := by
  cases h with
  | zero => rfl
  | succ h => exact if_pos ml_m1lt
theorem ml_cs_nI (c a4 : Nat → Int32) (b set : Int32) (h key : Nat) {j : Nat} (hj : j < 512) : ml_cs c a4 b set (h + 1) (nI j) key = if a4 j ≤ b then 0 else if ml_ins set key (2 ^ h) = 0 then 0 else if h = 0 then 1 else ml_cs c a4 b set h (c (2 * j)) key + ml_cs c a4 b set h (c (2 * j + 1)) (key + 2 ^ (h - 1)) := by
  show (if nI j < 0 then 0 else if a4 (nI j).toNatClampNeg ≤ b then 0 else if ml_ins set key (2 ^ h) = 0 then 0 else if h = 0 then 1 else ml_cs c a4 b set h (c (2 * (nI j).toNatClampNeg)) key + ml_cs c a4 b set h (c (2 * (nI j).toNatClampNeg + 1)) (key + 2 ^ (h - 1))) = _
  rw [if_neg (nI_pos (by omega)), nI_clamp (by omega)]
theorem ml_cs_le (c a4 : Nat → Int32) (b set : Int32) : ∀ (h : Nat) (n : Int32) (key : Nat), ml_cs c a4 b set h n key ≤ 2 ^ h := by
  intro h
  induction h with
  | zero => intro n key; exact Nat.zero_le _
  | succ h ih =>
    intro n key
    unfold ml_cs
    have q := ih (c (2 * n.toNatClampNeg)) key
    have p := ih (c (2 * n.toNatClampNeg + 1)) (key + 2 ^ (h - 1))
    have r : 2 ^ (h + 1) = 2 ^ h + 2 ^ h := by rw [Nat.pow_succ]; omega
    have o : 1 ≤ 2 ^ h := Nat.one_le_two_pow
    split
    · exact Nat.zero_le _
    · split
      · exact Nat.zero_le _
      · split
        · exact Nat.zero_le _
        · split
          · omega
          · omega
theorem ml_cs_set0 (c a4 : Nat → Int32) (b : Int32) (n : Int32) : ml_cs c a4 b 0 6 n 0 = 0 := by
  unfold ml_cs
  split
  · rfl
  · split
    · rfl
    · exact if_pos rfl
theorem ml_cs_old {c a4 : Nat → Int32} {P : Nat → Prop} {b set : Int32} {n : Int32} (T : ml_T c P 6 n) (h : ∀ j, j < 512 → a4 j ≤ b) : ml_cs c a4 b set 6 n 0 = 0 := by
  rcases ml_T_cases T with rfl | ⟨j, hj, rfl, _⟩
  · exact ml_cs_m1 c a4 b set 6 0
  · rw [ml_cs_nI c a4 b set 5 0 hj, if_pos (h j hj)]
/-- the way to a key: its nodes are all stamped lv -/
def ml_path (c a4 : Nat → Int32) (lv : Int32) (key : Nat) : Nat → Int32 → Prop
  | 0, _ => True
  | h + 1, n => ∃ j, j < 512 ∧ n = nI j ∧ a4 j = lv ∧ ml_path c a4 lv key h (c (2 * j + key / 2 ^ (h - 1) % 2))
theorem ml_ins_k : ∀ key, key < 32 → ∀ h, h < 6 → ¬ ml_ins ((1 : Int32) <<< (nI key &&& 31)) (key / 2 ^ h * 2 ^ h) (2 ^ h) = 0 := by decide +kernel
theorem ml_half (q p s : Nat) (h : q % 2 = s) : q / 2 * (p * 2) + s * p = q * p := by
  have e : q = q / 2 * 2 + s := by omega
  have : q * p = (q / 2 * 2 + s) * p := congrArg (fun z => z * p) e
  rw [this, Nat.add_mul, Nat.mul_assoc, Nat.mul_comm 2 p]
theorem ml_cs_path {c a4 : Nat → Int32} {b lv : Int32} {key : Nat} (hk : key < 32) (hb : ¬ lv ≤ b) : ∀ (h : Nat), h < 6 → ∀ (n : Int32), ml_path c a4 lv key (h + 1) n → 1 ≤ ml_cs c a4 b ((1 : Int32) <<< (nI key &&& 31)) (h + 1) n (key / 2 ^ h * 2 ^ h) := by
  intro h
  induction h with
  | zero =>
    intro h6 n p
    obtain ⟨j, hj, rfl, e, _⟩ := p
    rw [ml_cs_nI c a4 b _ 0 _ hj, if_neg (by rw [e]; exact hb), if_neg (ml_ins_k key hk 0 h6), if_pos rfl]
    exact Nat.le_refl 1
  | succ h ih =>
    intro h6 n p
    obtain ⟨j, hj, rfl, e, p⟩ := p
    rw [ml_cs_nI c a4 b _ (h + 1) _ hj, if_neg (by rw [e]; exact hb), if_neg (ml_ins_k key hk (h + 1) h6), if_neg (by omega)]
    have q := ih (by omega) _ p
    have d : key / 2 ^ (h + 1) = key / 2 ^ h / 2 := by rw [Nat.pow_succ, Nat.div_div_eq_div_mul]
    rw [Nat.add_sub_cancel] at q ⊢
    rw [d, Nat.pow_succ]
    have z : key / 2 ^ h % 2 = 0 ∨ key / 2 ^ h % 2 = 1 := by omega
    rcases z with z | z
    · have y := ml_half (key / 2 ^ h) (2 ^ h) 0 z
      rw [z] at q
      rw [Nat.add_zero] at q
      rw [Nat.zero_mul, Nat.add_zero] at y
      rw [y]
      exact Nat.le_trans q (Nat.le_add_right _ _)
    · have y := ml_half (key / 2 ^ h) (2 ^ h) 1 z
      rw [z] at q
      rw [Nat.one_mul] at y
      rw [y]
      omega
section
variable {f l g : Int32} {a1 a2 a3 a4 a5 a6 a7 a8 a9 a10 a11 a12 a13 a14 a15 a16 a17 a18 : Nat → Int32}
theorem ml_cs_pop {post : Int32 → St1 → Prop} {b set x : Int32} {m k j key sz : Nat} (hk : k < 16) (hs : sz ≤ 32) (eA : a16 k = nI j) (eB : a17 k = nI key) (eC : a18 k = nI sz)
    (H : wX_changedSince_88 post (wX_changedSince_16 post b set m) b set x (nI j) (nI key) (nI sz) (ml_ins set key sz) f l (nI k) a1 a2 a3 a4 a5 a6 a7 a8 a9 a10 a11 a12 a13 a14 a15 a16 a17 a18) : wX_changedSince_16 post b set (m + 1) x f l (nI (k + 1)) a1 a2 a3 a4 a5 a6 a7 a8 a9 a10 a11 a12 a13 a14 a15 a16 a17 a18 := by
  have i16 := vp_in_nI hk (show 16 < 2 ^ 31 by decide)
  have ec : (nI k).toNatClampNeg = k := nI_clamp (by omega)
  refine br_f (nI_nle (by omega) (by omega)) (nm_r (nI_pred k) ⟨i16, nm_r (e' := nI j) (by rw [ec]; exact eA) ⟨i16, nm_r (e' := nI key) (by rw [ec]; exact eB) ⟨i16, nm_r (e' := nI sz) (by rw [ec]; exact eC) ?_⟩⟩⟩)
  unfold ml_ins at H
  by_cases e : sz = 32
  · rw [if_pos e] at H
    exact br_t (by rw [e]; rfl) H
  · rw [if_neg e] at H
    exact br_f (fun z => e ((nI_eq (b := 32) (by omega) (by decide)).mp z)) H
theorem ml_cs_88k {post : Int32 → St1 → Prop} {J : Int32 → Int32 → Int32 → Int32 → (Nat → Int32) → (Nat → Int32) → (Nat → Int32) → (Nat → Int32) → (Nat → Int32) → (Nat → Int32) → (Nat → Int32) → (Nat → Int32) → (Nat → Int32) → (Nat → Int32) → (Nat → Int32) → (Nat → Int32) → (Nat → Int32) → (Nat → Int32) → (Nat → Int32) → (Nat → Int32) → (Nat → Int32) → (Nat → Int32) → Prop}
    {b set x z0 : Int32} {P : Nat → Prop} {k j key h : Nat} (hk : k < 15) (hj : j < 512) (hh : h ≤ 5) (hkey : key + 2 ^ h ≤ 32) (t0 : ml_T a1 P h (a1 (2 * j))) (t1 : ml_T a1 P h (a1 (2 * j + 1)))
    (H0 : a4 j ≤ b → J x f l (nI k) a1 a2 a3 a4 a5 a6 a7 a8 a9 a10 a11 a12 a13 a14 a15 a16 a17 a18) (H1 : ¬ a4 j ≤ b → z0 = 0 → J x f l (nI k) a1 a2 a3 a4 a5 a6 a7 a8 a9 a10 a11 a12 a13 a14 a15 a16 a17 a18) (H2 : ¬ a4 j ≤ b → ¬ z0 = 0 → h = 0 → J (x + 1) f l (nI k) a1 a2 a3 a4 a5 a6 a7 a8 a9 a10 a11 a12 a13 a14 a15 a16 a17 a18)
    (H3 : ¬ a4 j ≤ b → ¬ z0 = 0 → ¬ h = 0 → J x f l (nI (ml_pk (a1 (2 * j + 1)) (ml_pk (a1 (2 * j)) k))) a1 a2 a3 a4 a5 a6 a7 a8 a9 a10 a11 a12 a13 a14 a15 (ml_pu (a1 (2 * j + 1)) (ml_pk (a1 (2 * j)) k) (ml_pu (a1 (2 * j)) k a16 (a1 (2 * j))) (a1 (2 * j + 1))) (ml_pu (a1 (2 * j + 1)) (ml_pk (a1 (2 * j)) k) (ml_pu (a1 (2 * j)) k a17 (nI key)) (nI (key + 2 ^ (h - 1)))) (ml_pu (a1 (2 * j + 1)) (ml_pk (a1 (2 * j)) k) (ml_pu (a1 (2 * j)) k a18 (nI (2 ^ (h - 1)))) (nI (2 ^ (h - 1))))) :
    wX_changedSince_88 post J b set x (nI j) (nI key) (nI (2 ^ h)) z0 f l (nI k) a1 a2 a3 a4 a5 a6 a7 a8 a9 a10 a11 a12 a13 a14 a15 a16 a17 a18 := by
  have h32 : 2 ^ h ≤ 32 := by omega
  have ec : (nI j).toNatClampNeg = j := nI_clamp (by omega)
  unfold wX_changedSince_88
  refine ⟨vp_in_nI hj (by decide), ?_⟩
  rw [ec]
  refine br_c H0 (fun z => br_c (H1 z) (fun y => ?_))
  by_cases e : h = 0
  · refine br_t ?_ (nm_e (H2 z y e))
    rw [e]
    rfl
  · have hd : nI (2 ^ h) / 2 = nI (2 ^ (h - 1)) := by
      rw [show (2 : Int32) = nI 2 from rfl, pk_div (by omega) (by decide) (by decide)]
      have : 2 ^ h = 2 ^ (h - 1) * 2 := by rw [← Nat.pow_succ]; congr 1; omega
      rw [this, Nat.mul_div_cancel _ (by decide)]
    have hp : 2 ^ h = 2 ^ (h - 1) + 2 ^ (h - 1) := by
      have : 2 ^ h = 2 ^ (h - 1) * 2 := by rw [← Nat.pow_succ]; congr 1; omega
      omega
    have q := ml_pk_ge (a1 (2 * j)) k
    have o := Nat.one_le_two_pow (n := h - 1)
    rw [hd]
    refine br_f ?_ ⟨?_, by decide, ?_⟩
    · intro w
      have : 2 ^ h = 1 := (nI_eq (a := 2 ^ h) (b := 1) (by omega) (by decide)).mp w
      have : 1 ≤ 2 ^ (h - 1) := Nat.one_le_two_pow
      omega
    · rw [ml_two0]
      exact vp_in_nI (by omega) (by decide)
    · rw [show (2 * nI j).toNatClampNeg = 2 * j by rw [ml_two0]; exact nI_clamp (by omega)]
      have e2 : 2 * nI j + 1 = nI (2 * j + 1) := ml_two j 1
      rw [e2, nI_add]
      refine ml_push (by omega) t0 (by omega) (by omega) ⟨vp_in_nI (by omega) (by decide), by decide, by decide, ?_⟩
      rw [nI_clamp (show 2 * j + 1 < 2 ^ 31 by omega)]
      exact ml_push (by omega) t1 (by omega) (by omega) (H3 z y e)
theorem ml_csw {post : Int32 → St1 → Prop} {P : Nat → Prop} {b set : Int32} : ∀ (h : Nat), h ≤ 6 → ∀ (n : Int32) (key k : Nat) (x : Int32) (A B C : Nat → Int32), ml_T a1 P h n → (1 ≤ h → key + 2 ^ (h - 1) ≤ 32) → k + h ≤ 6 →
    (¬ n < 0 → A k = n ∧ B k = nI key ∧ C k = nI (2 ^ (h - 1))) →
    (∀ A' B' C', (∀ i, i < k → A' i = A i ∧ B' i = B i ∧ C' i = C i) → ∃ m, wX_changedSince_16 post b set m (x + nI (ml_cs a1 a4 b set h n key)) f l (nI k) a1 a2 a3 a4 a5 a6 a7 a8 a9 a10 a11 a12 a13 a14 a15 A' B' C') →
    ∃ m, wX_changedSince_16 post b set m x f l (nI (ml_pk n k)) a1 a2 a3 a4 a5 a6 a7 a8 a9 a10 a11 a12 a13 a14 a15 A B C := by
  intro h
  induction h with
  | zero =>
    intro _ n key k x A B C t _ _ _ H
    have e : n = -1 := t
    subst e
    have w := H A B C (fun _ _ => ⟨rfl, rfl, rfl⟩)
    rw [ml_cs_m1, nI_0, Int32.add_zero] at w
    rw [ml_pk_m1]
    exact w
  | succ h ih =>
    intro h6 n key k x A B C t hkey hk hA H
    rcases t with rfl | ⟨j, hj, rfl, _, t0, t1⟩
    · have w := H A B C (fun _ _ => ⟨rfl, rfl, rfl⟩)
      rw [ml_cs_m1, nI_0, Int32.add_zero] at w
      rw [ml_pk_m1]
      exact w
    · obtain ⟨eA, eB, eC⟩ := hA (nI_pos (by omega))
      rw [ml_pk_nI hj]
      rw [Nat.add_sub_cancel] at eC
      have hkey' : key + 2 ^ h ≤ 32 := hkey (by omega)
      have h32 : 2 ^ h ≤ 32 := by omega
      rw [ml_cs_nI a1 a4 b set h key hj] at H
      by_cases c1 : a4 j ≤ b
      · rw [if_pos c1, nI_0, Int32.add_zero] at H
        obtain ⟨m, w⟩ := H A B C (fun _ _ => ⟨rfl, rfl, rfl⟩)
        exact ⟨m + 1, ml_cs_pop (by omega) h32 eA eB eC (ml_cs_88k (by omega) hj (by omega) hkey' t0 t1 (fun _ => w) (fun z => absurd c1 z) (fun z => absurd c1 z) (fun z => absurd c1 z))⟩
      · rw [if_neg c1] at H
        by_cases c2 : ml_ins set key (2 ^ h) = 0
        · rw [if_pos c2, nI_0, Int32.add_zero] at H
          obtain ⟨m, w⟩ := H A B C (fun _ _ => ⟨rfl, rfl, rfl⟩)
          exact ⟨m + 1, ml_cs_pop (by omega) h32 eA eB eC (ml_cs_88k (by omega) hj (by omega) hkey' t0 t1 (fun z => absurd z c1) (fun _ _ => w) (fun _ z => absurd c2 z) (fun _ z => absurd c2 z))⟩
        · rw [if_neg c2] at H
          by_cases c3 : h = 0
          · rw [if_pos c3] at H
            obtain ⟨m, w⟩ := H A B C (fun _ _ => ⟨rfl, rfl, rfl⟩)
            exact ⟨m + 1, ml_cs_pop (by omega) h32 eA eB eC (ml_cs_88k (by omega) hj (by omega) hkey' t0 t1 (fun z => absurd z c1) (fun _ z => absurd z c2) (fun _ _ _ => w) (fun _ _ z => absurd c3 z))⟩
          · rw [if_neg c3] at H
            have hp : 2 ^ h = 2 ^ (h - 1) + 2 ^ (h - 1) := by
              have : 2 ^ h = 2 ^ (h - 1) * 2 := by rw [← Nat.pow_succ]; congr 1; omega
              omega
            have q := ml_pk_ge (a1 (2 * j)) k
            have o := Nat.one_le_two_pow (n := h - 1)
            have R := ih (by omega) (a1 (2 * j + 1)) (key + 2 ^ (h - 1)) (ml_pk (a1 (2 * j)) k) x (ml_pu (a1 (2 * j + 1)) (ml_pk (a1 (2 * j)) k) (ml_pu (a1 (2 * j)) k A (a1 (2 * j))) (a1 (2 * j + 1))) (ml_pu (a1 (2 * j + 1)) (ml_pk (a1 (2 * j)) k) (ml_pu (a1 (2 * j)) k B (nI key)) (nI (key + 2 ^ (h - 1)))) (ml_pu (a1 (2 * j + 1)) (ml_pk (a1 (2 * j)) k) (ml_pu (a1 (2 * j)) k C (nI (2 ^ (h - 1)))) (nI (2 ^ (h - 1)))) t1 (fun _ => by omega) (by omega)
              (fun z => ⟨ml_pu_at z _ _ _, ml_pu_at z _ _ _, ml_pu_at z _ _ _⟩) (fun A' B' C' hh => ih (by omega) (a1 (2 * j)) key k _ A' B' C' t0 (fun _ => by omega) (by omega) (fun z => by
                have y := hh k (by rw [ml_pk_pos z]; omega)
                have kk : k < ml_pk (a1 (2 * j)) k := by rw [ml_pk_pos z]; omega
                rw [ml_pu_lo _ _ _ kk, ml_pu_lo _ _ _ kk, ml_pu_lo _ _ _ kk, ml_pu_at z, ml_pu_at z, ml_pu_at z] at y
                exact y) (fun A'' B'' C'' hh' => by
                have w := H A'' B'' C'' (fun i hi => by
                  have y := hh i (by omega)
                  have y' := hh' i hi
                  have kk : i < ml_pk (a1 (2 * j)) k := by omega
                  rw [ml_pu_lo _ _ _ kk, ml_pu_lo _ _ _ kk, ml_pu_lo _ _ _ kk, ml_pu_lo _ _ _ hi, ml_pu_lo _ _ _ hi, ml_pu_lo _ _ _ hi] at y
                  exact ⟨y'.1.trans y.1, y'.2.1.trans y.2.1, y'.2.2.trans y.2.2⟩)
                rw [Int32.add_assoc, nI_add, Nat.add_comm]
                exact w))
            obtain ⟨m, w⟩ := R
            exact ⟨m + 1, ml_cs_pop (by omega) h32 eA eB eC (ml_cs_88k (by omega) hj (by omega) hkey' t0 t1 (fun z => absurd z c1) (fun _ z => absurd z c2) (fun _ _ z => absurd z c3) (fun _ _ _ => w))⟩
theorem ml_changed {post : Int32 → St1 → Prop} {P : Nat → Prop} {b set n : Int32} (T : ml_T a1 P 6 n) (H : ∀ A B C, post (nI (ml_cs a1 a4 b set 6 n 0)) (f, l, 0, a1, a2, a3, a4, a5, a6, a7, a8, a9, a10, a11, a12, a13, a14, a15, A, B, C)) : wpX_changedSince post (f, l, g, a1, a2, a3, a4, a5, a6, a7, a8, a9, a10, a11, a12, a13, a14, a15, a16, a17, a18) n b set := by
  unfold wpX_changedSince
  refine ml_push (k := 0) (key := 0) (sz := 32) (by omega) T (by omega) (by omega) ?_
  refine ml_csw 6 (Nat.le_refl 6) n 0 0 0 _ _ _ T (fun _ => by decide) (by omega) (fun z => ⟨ml_pu_at z _ _ _, ml_pu_at z _ _ _, ml_pu_at z _ _ _⟩) (fun A B C _ => ⟨1, br_t (by decide) ?_⟩)
  rw [Int32.zero_add]
  exact H A B C
end
end
section
/-! mark and collect -/
/-- the children of a marked node are marked, or wait in Q -/
def ml_Cl (c m : Nat → Int32) (Q : Nat → Prop) : Prop := ∀ j, j < 512 → m j ≠ 0 → ∀ s, s < 2 → c (2 * j + s) = -1 ∨ ∃ x, x < 512 ∧ c (2 * j + s) = nI x ∧ (m x ≠ 0 ∨ Q x)
theorem ml_Cl_mono {c m : Nat → Int32} {Q Q' : Nat → Prop} (h : ml_Cl c m Q) (hq : ∀ x, x < 512 → Q x → m x ≠ 0 ∨ Q' x) : ml_Cl c m Q' := by
  intro j hj hm s hs
  rcases h j hj hm s hs with e | ⟨x, hx, e, q⟩
  · exact Or.inl e
  · refine Or.inr ⟨x, hx, e, ?_⟩
    rcases q with q | q
    · exact Or.inl q
    · exact hq x hx q
theorem ml_nIm1 {x : Nat} (hx : x < 512) : (-1 : Int32) ≠ nI x := by
  intro e
  have := nI_pos (n := x) (by omega)
  rw [← e] at this
  exact this ml_m1lt
theorem ml_nIinj {x y : Nat} (hx : x < 512) (hy : y < 512) (e : nI x = nI y) : x = y := (nI_eq (by omega) (by omega)).mp e
section
variable {f l g : Int32} {a1 a2 a3 a4 a5 a6 a7 a8 a9 a10 a11 a12 a13 a14 a15 a16 a17 a18 : Nat → Int32}
theorem ml_mk_skip {post : St1 → Prop} {m k j : Nat} (hk : k < 16) (hj : j < 512) (eA : a16 k = nI j) (hm : ¬ a5 j = 0) (H : wX_mark_13 post m f l (nI k) a1 a2 a3 a4 a5 a6 a7 a8 a9 a10 a11 a12 a13 a14 a15 a16 a17 a18) : wX_mark_13 post (m + 1) f l (nI (k + 1)) a1 a2 a3 a4 a5 a6 a7 a8 a9 a10 a11 a12 a13 a14 a15 a16 a17 a18 := by
  have i16 := vp_in_nI hk (show 16 < 2 ^ 31 by decide)
  have ec : (nI k).toNatClampNeg = k := nI_clamp (by omega)
  refine br_f (nI_nle (by omega) (by omega)) (nm_r (nI_pred k) ⟨i16, nm_r (e' := nI j) (by rw [ec]; exact eA) ⟨vp_in_nI hj (by decide), br_f ?_ H⟩⟩)
  rw [nI_clamp (by omega)]
  exact hm
theorem ml_mk_do {post : St1 → Prop} {P : Nat → Prop} {m k j h : Nat} (hk : k < 15) (hj : j < 512) (eA : a16 k = nI j) (hm : a5 j = 0) (t0 : ml_T a1 P h (a1 (2 * j))) (t1 : ml_T a1 P h (a1 (2 * j + 1)))
    (H : wX_mark_13 post m f l (nI (ml_pk (a1 (2 * j + 1)) (ml_pk (a1 (2 * j)) k))) a1 a2 a3 a4 (upd a5 j 1) a6 a7 a8 a9 a10 a11 a12 a13 a14 a15 (ml_pu (a1 (2 * j + 1)) (ml_pk (a1 (2 * j)) k) (ml_pu (a1 (2 * j)) k a16 (a1 (2 * j))) (a1 (2 * j + 1))) (ml_pu (a1 (2 * j + 1)) (ml_pk (a1 (2 * j)) k) (ml_pu (a1 (2 * j)) k a17 (nI 0)) (nI 0)) (ml_pu (a1 (2 * j + 1)) (ml_pk (a1 (2 * j)) k) (ml_pu (a1 (2 * j)) k a18 (nI 0)) (nI 0))) : wX_mark_13 post (m + 1) f l (nI (k + 1)) a1 a2 a3 a4 a5 a6 a7 a8 a9 a10 a11 a12 a13 a14 a15 a16 a17 a18 := by
  have i16 := vp_in_nI (show k < 16 by omega) (show 16 < 2 ^ 31 by decide)
  have i512 := vp_in_nI hj (show 512 < 2 ^ 31 by decide)
  have ec : (nI k).toNatClampNeg = k := nI_clamp (by omega)
  have ej : (nI j).toNatClampNeg = j := nI_clamp (by omega)
  have q := ml_pk_ge (a1 (2 * j)) k
  refine br_f (nI_nle (by omega) (by omega)) (nm_r (nI_pred k) ⟨i16, nm_r (e' := nI j) (by rw [ec]; exact eA) ⟨i512, br_t (by rw [ej]; exact hm) ⟨i512, nm_r (e' := upd a5 j 1) (by rw [ej]) ⟨?_, ?_⟩⟩⟩⟩)
  · rw [ml_two0]
    exact vp_in_nI (by omega) (by decide)
  · rw [show (2 * nI j).toNatClampNeg = 2 * j by rw [ml_two0]; exact nI_clamp (by omega)]
    have e2 : 2 * nI j + 1 = nI (2 * j + 1) := ml_two j 1
    rw [e2]
    refine ml_push (key := 0) (sz := 0) (by omega) t0 (by omega) (by omega) ⟨vp_in_nI (by omega) (by decide), ?_⟩
    rw [nI_clamp (show 2 * j + 1 < 2 ^ 31 by omega)]
    exact ml_push (key := 0) (sz := 0) (by omega) t1 (by omega) (by omega) H
theorem ml_mkw {post : St1 → Prop} {P : Nat → Prop} : ∀ (h : Nat), h ≤ 6 → ∀ (n : Int32) (k : Nat) (Q : Nat → Prop) (M A B C : Nat → Int32), ml_T a1 P h n → k + h ≤ 6 → (¬ n < 0 → A k = n) → ml_Cl a1 M (fun x => Q x ∨ n = nI x) →
    (∀ M' A' B' C', (∀ i, i < k → A' i = A i) → (∀ j, M j ≠ 0 → M' j ≠ 0) → (n = -1 ∨ ∃ j, j < 512 ∧ n = nI j ∧ M' j ≠ 0) → (∀ j, j < 512 → M' j ≠ 0 → M j ≠ 0 ∨ j ∈ ml_N a1 h n) → ml_Cl a1 M' Q → ∃ m, wX_mark_13 post m f l (nI k) a1 a2 a3 a4 M' a6 a7 a8 a9 a10 a11 a12 a13 a14 a15 A' B' C') →
    ∃ m, wX_mark_13 post m f l (nI (ml_pk n k)) a1 a2 a3 a4 M a6 a7 a8 a9 a10 a11 a12 a13 a14 a15 A B C := by
  intro h
  induction h with
  | zero =>
    intro _ n k Q M A B C t _ _ hC H
    have e : n = -1 := t
    subst e
    rw [ml_pk_m1]
    refine H M A B C (fun _ _ => rfl) (fun _ z => z) (Or.inl rfl) (fun _ _ z => Or.inl z) (ml_Cl_mono hC (fun x hx q => ?_))
    rcases q with q | q
    · exact Or.inr q
    · exact absurd q (ml_nIm1 hx)
  | succ h ih =>
    intro h6 n k Q M A B C t hk hA hC H
    rcases t with rfl | ⟨j, hj, rfl, _, t0, t1⟩
    · rw [ml_pk_m1]
      refine H M A B C (fun _ _ => rfl) (fun _ z => z) (Or.inl rfl) (fun _ _ z => Or.inl z) (ml_Cl_mono hC (fun x hx q => ?_))
      rcases q with q | q
      · exact Or.inr q
      · exact absurd q (ml_nIm1 hx)
    · have eA := hA (nI_pos (by omega))
      rw [ml_pk_nI hj]
      by_cases c1 : M j = 0
      · have q := ml_pk_ge (a1 (2 * j)) k
        have mu : ∀ x, M x ≠ 0 → upd M j 1 x ≠ 0 := by
          intro x hx
          by_cases e : x = j
          · rw [e, pk_us]; decide
          · rw [pk_un e]; exact hx
        have R := ih (by omega) (a1 (2 * j + 1)) (ml_pk (a1 (2 * j)) k) (fun x => Q x ∨ a1 (2 * j) = nI x) (upd M j 1) (ml_pu (a1 (2 * j + 1)) (ml_pk (a1 (2 * j)) k) (ml_pu (a1 (2 * j)) k A (a1 (2 * j))) (a1 (2 * j + 1))) (ml_pu (a1 (2 * j + 1)) (ml_pk (a1 (2 * j)) k) (ml_pu (a1 (2 * j)) k B (nI 0)) (nI 0)) (ml_pu (a1 (2 * j + 1)) (ml_pk (a1 (2 * j)) k) (ml_pu (a1 (2 * j)) k C (nI 0)) (nI 0)) t1 (by omega)
          (fun z => ml_pu_at z _ _ _) (by
            intro y hy hm s hs
            by_cases e : y = j
            · rw [e]
              have hs' : s = 0 ∨ s = 1 := by omega
              rcases hs' with rfl | rfl
              · rcases ml_T_cases t0 with e0 | ⟨x, hx, e0, _⟩
                · exact Or.inl e0
                · exact Or.inr ⟨x, hx, e0, Or.inr (Or.inl (Or.inr e0))⟩
              · rcases ml_T_cases t1 with e0 | ⟨x, hx, e0, _⟩
                · exact Or.inl e0
                · exact Or.inr ⟨x, hx, e0, Or.inr (Or.inr e0)⟩
            · rw [pk_un e] at hm
              rcases hC y hy hm s hs with e0 | ⟨x, hx, e0, q0⟩
              · exact Or.inl e0
              · refine Or.inr ⟨x, hx, e0, ?_⟩
                rcases q0 with q0 | q0 | q0
                · exact Or.inl (mu x q0)
                · exact Or.inr (Or.inl (Or.inl q0))
                · refine Or.inl ?_
                  rw [← ml_nIinj hj hx q0, pk_us]
                  decide) (fun M1 A1 B1 C1 k1 k2 k3 k4 k5 => ih (by omega) (a1 (2 * j)) k Q M1 A1 B1 C1 t0 (by omega) (fun z => by
                have kk : k < ml_pk (a1 (2 * j)) k := by rw [ml_pk_pos z]; omega
                rw [k1 k kk, ml_pu_lo _ _ _ kk, ml_pu_at z]) k5 (fun M2 A2 B2 C2 g1 g2 g3 g4 g5 => H M2 A2 B2 C2 (fun i hi => by
                  have kk : i < ml_pk (a1 (2 * j)) k := by omega
                  rw [g1 i hi, k1 i kk, ml_pu_lo _ _ _ kk, ml_pu_lo _ _ _ hi]) (fun x hx => g2 x (k2 x (mu x hx))) (Or.inr ⟨j, hj, rfl, g2 j (k2 j (by rw [pk_us]; decide))⟩) (fun x hx hm => by
                    rw [ml_N_nI a1 h hj]
                    rcases g4 x hx hm with y | y
                    · rcases k4 x hx y with w | w
                      · by_cases e : x = j
                        · exact Or.inr (by rw [e]; exact List.mem_cons_self)
                        · rw [pk_un e] at w
                          exact Or.inl w
                      · exact Or.inr (List.mem_cons_of_mem _ (List.mem_append_right _ w))
                    · exact Or.inr (List.mem_cons_of_mem _ (List.mem_append_left _ y))) g5))
        obtain ⟨m, w⟩ := R
        exact ⟨m + 1, ml_mk_do (by omega) hj eA c1 t0 t1 w⟩
      · obtain ⟨m, w⟩ := H M A B C (fun _ _ => rfl) (fun _ z => z) (Or.inr ⟨j, hj, rfl, c1⟩) (fun _ _ z => Or.inl z) (ml_Cl_mono hC (fun x hx q => by
          rcases q with q | q
          · exact Or.inr q
          · refine Or.inl ?_
            rw [← ml_nIinj hj hx q]
            exact c1))
        exact ⟨m + 1, ml_mk_skip (by omega) hj eA c1 w⟩
theorem ml_mark {post : St1 → Prop} {P : Nat → Prop} {n : Int32} (T : ml_T a1 P 6 n) (hC : ml_Cl a1 a5 (fun _ => False))
    (H : ∀ M A B C, (∀ j, a5 j ≠ 0 → M j ≠ 0) → (n = -1 ∨ ∃ j, j < 512 ∧ n = nI j ∧ M j ≠ 0) → (∀ j, j < 512 → M j ≠ 0 → a5 j ≠ 0 ∨ j ∈ ml_N a1 6 n) → ml_Cl a1 M (fun _ => False) → post (f, l, 0, a1, a2, a3, a4, M, a6, a7, a8, a9, a10, a11, a12, a13, a14, a15, A, B, C)) : wpX_mark post (f, l, g, a1, a2, a3, a4, a5, a6, a7, a8, a9, a10, a11, a12, a13, a14, a15, a16, a17, a18) n := by
  unfold wpX_mark
  refine ml_push (k := 0) (key := 0) (sz := 32) (by omega) T (by omega) (by omega) ?_
  exact ml_mkw 6 (Nat.le_refl 6) n 0 (fun _ => False) a5 _ _ _ T (by omega) (fun z => ml_pu_at z _ _ _) (ml_Cl_mono hC (fun _ _ q => absurd q (fun z => z))) (fun M A B C _ k2 k3 k4 k5 => ⟨1, br_t (by decide) (H M A B C k2 k3 k4 k5)⟩)
end
/-- a marked closed set holds the whole tree of a marked root -/
theorem ml_T_marked {c m : Nat → Int32} {P : Nat → Prop} (hC : ml_Cl c m (fun _ => False)) : ∀ (h : Nat) (n : Int32), ml_T c P h n → (n = -1 ∨ ∃ j, j < 512 ∧ n = nI j ∧ m j ≠ 0) → ml_T c (fun j => m j ≠ 0) h n := by
  intro h
  induction h with
  | zero => intro n t _; exact t
  | succ h ih =>
    intro n t hn
    rcases t with e | ⟨j, hj, e, p, t0, t1⟩
    · exact Or.inl e
    · rcases hn with e' | ⟨j', hj', e', hm⟩
      · exact Or.inl e'
      · have : j = j' := ml_nIinj hj hj' (e.symm.trans e')
        subst this
        have cc : ∀ s, s < 2 → (c (2 * j + s) = -1 ∨ ∃ x, x < 512 ∧ c (2 * j + s) = nI x ∧ m x ≠ 0) := by
          intro s hs
          rcases hC j hj hm s hs with z | ⟨x, hx, z, y⟩
          · exact Or.inl z
          · rcases y with y | y
            · exact Or.inr ⟨x, hx, z, y⟩
            · exact absurd y (fun w => w)
        exact Or.inr ⟨j, hj, e, hm, ih _ t0 (cc 0 (by omega)), ih _ t1 (cc 1 (by omega))⟩
/-- the free list; what is not in it -/
def ml_F (fc : Nat) (a6 : Nat → Int32) : Prop := fc ≤ 512 ∧ (∀ i, i < fc → ∃ j, j < 512 ∧ a6 i = nI j) ∧ (∀ i i', i < i' → i' < fc → a6 i ≠ a6 i')
def ml_U (fc : Nat) (a6 : Nat → Int32) (j : Nat) : Prop := ∀ i, i < fc → a6 i ≠ nI j
theorem ml_F_le {fc fc' : Nat} {a6 : Nat → Int32} (h : ml_F fc a6) (hl : fc' ≤ fc) : ml_F fc' a6 :=
  ⟨Nat.le_trans hl h.1, fun i hi => h.2.1 i (by omega), fun i i' h1 h2 => h.2.2 i i' h1 (by omega)⟩
theorem ml_U_le {fc fc' : Nat} {a6 : Nat → Int32} (hl : fc' ≤ fc) (j : Nat) (h : ml_U fc a6 j) : ml_U fc' a6 j := fun i hi => h i (by omega)
/-- the free list under construction: nodes from m on have been looked at -/
def ml_G (M : Nat → Int32) (m fc : Nat) (a6 : Nat → Int32) : Prop := fc + m + ml_cnt M 512 = 512 + ml_cnt M m ∧ (∀ i, i < fc → ∃ j, m ≤ j ∧ j < 512 ∧ a6 i = nI j ∧ M j = 0) ∧ (∀ i i', i < i' → i' < fc → a6 i ≠ a6 i')
theorem ml_cnt_lem (M : Nat → Int32) (m : Nat) : ml_cnt M m ≤ m := by
  induction m with
  | zero => exact Nat.le_refl 0
  | succ m ih =>
    unfold ml_cnt
    split <;> omega
theorem ml_cnt_mono (M : Nat → Int32) {m n : Nat} (h : m ≤ n) : ml_cnt M m ≤ ml_cnt M n := by
  induction n with
  | zero => rw [show m = 0 by omega]; exact Nat.le_refl _
  | succ n ih =>
    by_cases e : m = n + 1
    · rw [e]; exact Nat.le_refl _
    · have := ih (by omega)
      show ml_cnt M m ≤ (if M n = 0 then ml_cnt M n else ml_cnt M n + 1)
      split <;> omega
theorem ml_G_lt {M : Nat → Int32} {m fc : Nat} {a6 : Nat → Int32} (h : ml_G M (m + 1) fc a6) (hm : m < 512) (hz : M m = 0) : fc < 512 := by
  have := h.1
  have := ml_cnt_mono M (show m + 1 ≤ 512 by omega)
  omega
theorem ml_G_put {M : Nat → Int32} {m fc : Nat} {a6 : Nat → Int32} (h : ml_G M (m + 1) fc a6) (hm : m < 512) (hz : M m = 0) : ml_G M m (fc + 1) (upd a6 fc (nI m)) := by
  obtain ⟨h1, h2, h3⟩ := h
  refine ⟨?_, fun i hi => ?_, fun i i' hi hi' => ?_⟩
  · have : ml_cnt M (m + 1) = ml_cnt M m := if_pos hz
    omega
  · by_cases e : i = fc
    · rw [e, pk_us]
      exact ⟨m, Nat.le_refl m, hm, rfl, hz⟩
    · rw [pk_un e]
      obtain ⟨j, q1, q2, q3, q4⟩ := h2 i (by omega)
      exact ⟨j, by omega, q2, q3, q4⟩
  · rw [pk_un (show i ≠ fc by omega)]
    by_cases e : i' = fc
    · rw [e, pk_us]
      obtain ⟨j, q1, q2, q3, q4⟩ := h2 i (by omega)
      rw [q3]
      intro y
      have := ml_nIinj q2 hm y
      omega
    · rw [pk_un e]
      exact h3 i i' hi (by omega)
theorem ml_G_skip {M : Nat → Int32} {m fc : Nat} {a6 : Nat → Int32} (h : ml_G M (m + 1) fc a6) (hz : ¬ M m = 0) : ml_G M m fc a6 := by
  obtain ⟨h1, h2, h3⟩ := h
  refine ⟨?_, fun i hi => ?_, h3⟩
  · have : ml_cnt M (m + 1) = ml_cnt M m + 1 := if_neg hz
    omega
  · obtain ⟨j, q1, q2, q3, q4⟩ := h2 i hi
    exact ⟨j, by omega, q2, q3, q4⟩
theorem ml_G_F {M : Nat → Int32} {fc : Nat} {a6 : Nat → Int32} (h : ml_G M 0 fc a6) : ml_F fc a6 ∧ (∀ j, j < 512 → M j ≠ 0 → ml_U fc a6 j) ∧ fc + ml_cnt M 512 = 512 := by
  obtain ⟨h1, h2, h3⟩ := h
  have e : ml_cnt M 0 = 0 := rfl
  refine ⟨⟨by omega, fun i hi => ?_, h3⟩, fun j hj hm i hi y => ?_, by omega⟩
  · obtain ⟨j, _, q2, q3, _⟩ := h2 i hi
    exact ⟨j, q2, q3⟩
  · obtain ⟨x, _, q2, q3, q4⟩ := h2 i hi
    rw [q3] at y
    rw [ml_nIinj q2 hj y] at q4
    exact hm q4
section
variable {f l g : Int32} {a1 a2 a3 a4 a5 a6 a7 a8 a9 a10 a11 a12 a13 a14 a15 a16 a17 a18 : Nat → Int32}
theorem ml_c78 {post : St1 → Prop} (H : ∀ fc a6', ml_G a5 0 fc a6' → post (nI fc, l, g, a1, a2, a3, a4, a5, a6', a7, a8, a9, a10, a11, a12, a13, a14, a15, a16, a17, a18)) : ∃ n, wX_collect_78 post l g n 511 0 a1 a2 a3 a4 a5 a6 a7 a8 a9 a10 a11 a12 a13 a14 a15 a16 a17 a18 := by
  have main := pk_loopD (σ := Nat × (Nat → Int32)) (fun n i s => i ≤ 512 → wX_collect_78 post l g n (ml_bc i) (nI s.1) a1 a2 a3 a4 a5 s.2 a7 a8 a9 a10 a11 a12 a13 a14 a15 a16 a17 a18) (fun i s => ml_G a5 i s.1 s.2)
    (fun n s h _ => br_t (show (-1 : Int32) < 0 from ml_m1lt) (H s.1 s.2 h))
    (fun n i s h hn hi => by
      have i512 : i < 512 := by omega
      refine br_f (nI_pos (n := i) (by omega)) ⟨vp_in_nI (n := i) i512 (by decide), ?_⟩
      rw [show (ml_bc (i + 1)).toNatClampNeg = i from nI_clamp (by omega)]
      refine br_c (fun z => ⟨vp_in_nI (ml_G_lt h i512 z) (by decide), nm_r (e' := upd s.2 s.1 (nI i)) ?_ (nm_r (nI_1 s.1) (nm_r (ml_bc1 i) (hn (s.1 + 1, upd s.2 s.1 (nI i)) (ml_G_put h i512 z) (by omega))))⟩) (fun z => nm_r (ml_bc1 i) (hn s (ml_G_skip h z) (by omega)))
      have := ml_G_lt h i512 z
      rw [nI_clamp (by omega), show (ml_bc (i + 1)).toInt16.toInt32 = nI i from ml_sh512 i i512])
  exact ⟨513, main 512 (0, a6) ⟨by omega, fun i hi => absurd hi (by omega), fun i i' _ hi => absurd hi (by omega)⟩ (Nat.le_refl 512)⟩
/-- all that the collector's two loops keep -/
def ml_K (c a5 : Nat → Int32) (D : Int32 → Prop) (E : Int32 → Prop) : Prop := ml_Cl c a5 (fun _ => False) ∧ (∀ r, D r → r = -1 ∨ ∃ j, j < 512 ∧ r = nI j ∧ a5 j ≠ 0) ∧ (∀ j, j < 512 → a5 j ≠ 0 → ∃ r, E r ∧ j ∈ ml_N c 6 r)
theorem ml_K_step {c a5 M : Nat → Int32} {D E : Int32 → Prop} {n : Int32} (h : ml_K c a5 D E) (hn : E n) (k2 : ∀ j, a5 j ≠ 0 → M j ≠ 0) (k3 : n = -1 ∨ ∃ j, j < 512 ∧ n = nI j ∧ M j ≠ 0) (k4 : ∀ j, j < 512 → M j ≠ 0 → a5 j ≠ 0 ∨ j ∈ ml_N c 6 n) (k5 : ml_Cl c M (fun _ => False)) : ml_K c M (fun r => D r ∨ r = n) E := by
  refine ⟨k5, fun r hr => ?_, fun j hj hm => ?_⟩
  · rcases hr with hr | hr
    · rcases h.2.1 r hr with e | ⟨j, hj, e, y⟩
      · exact Or.inl e
      · exact Or.inr ⟨j, hj, e, k2 j y⟩
    · rw [hr]; exact k3
  · rcases k4 j hj hm with y | y
    · exact h.2.2 j hj y
    · exact ⟨n, hn, y⟩
theorem ml_K_D {c a5 : Nat → Int32} {D D' E : Int32 → Prop} (h : ml_K c a5 D E) (hd : ∀ r, D' r → D r) : ml_K c a5 D' E := ⟨h.1, fun r hr => h.2.1 r (hd r hr), h.2.2⟩
theorem ml_c48 {post : St1 → Prop} {P E : Int32 → Prop} {Q : Nat → Prop} (hT : ∀ t, t < 4 → ml_T a1 Q 6 (a10 t)) (hE : ∀ t, t < 4 → E (a10 t)) (hK : ml_K a1 a5 P E)
    (H : ∀ fc g' M a6' A B C, ml_K a1 M (fun r => P r ∨ ∃ t, t < 4 ∧ r = a10 t) E → ml_G M 0 fc a6' → post (nI fc, l, g', a1, a2, a3, a4, M, a6', a7, a8, a9, a10, a11, a12, a13, a14, a15, A, B, C)) : ∃ n, wX_collect_48 post n 0 f l g a1 a2 a3 a4 a5 a6 a7 a8 a9 a10 a11 a12 a13 a14 a15 a16 a17 a18 :=
  pk_loop (σ := Int32 × (Nat → Int32) × (Nat → Int32) × (Nat → Int32) × (Nat → Int32)) (fun n i s => wX_collect_48 post n (nI i) f l s.1 a1 a2 a3 a4 s.2.1 a6 a7 a8 a9 a10 a11 a12 a13 a14 a15 s.2.2.1 s.2.2.2.1 s.2.2.2.2) (fun i s => ml_K a1 s.2.1 (fun r => P r ∨ ∃ t, t < i ∧ r = a10 t) E) 4 0 (g, a5, a16, a17, a18) (by omega)
    (ml_K_D hK (fun r hr => by
      rcases hr with hr | ⟨t, ht, _⟩
      · exact hr
      · exact absurd ht (by omega)))
    (fun n s h => pk_le 4 4 (fun _ => ml_c78 (fun fc a6' hG => H fc s.1 s.2.1 a6' _ _ _ h hG)) (fun z => absurd z (by omega)))
    (fun n i s hi h hn => pk_le 4 i (fun z => absurd z (by omega)) (fun _ => ⟨vp_in_nI hi (by decide), by
      rw [nI_clamp (by omega)]
      exact ml_mark (hT i hi) h.1 (fun M A B C k2 k3 k4 k5 => nm_r (nI_1 i) (hn (0, M, A, B, C) (ml_K_D (ml_K_step h (hE i hi) k2 k3 k4 k5) (fun r hr => by
        rcases hr with hr | ⟨t, ht, e⟩
        · exact Or.inl (Or.inl hr)
        · by_cases q : t = i
          · exact Or.inr (by rw [e, q])
          · exact Or.inl (Or.inr ⟨t, by omega, e⟩)))))⟩))
theorem ml_c24 {post : St1 → Prop} {E : Int32 → Prop} {Q : Nat → Prop} (hT7 : ∀ k, k < 6 → ml_T a1 Q 6 (a7 k)) (hE7 : ∀ k, k < 6 → E (a7 k)) (hT : ∀ t, t < 4 → ml_T a1 Q 6 (a10 t)) (hE : ∀ t, t < 4 → E (a10 t)) (hK : ml_K a1 a5 (fun _ => False) E)
    (H : ∀ fc g' M a6' A B C, ml_K a1 M (fun r => (∃ k, k < 6 ∧ r = a7 k) ∨ ∃ t, t < 4 ∧ r = a10 t) E → ml_G M 0 fc a6' → post (nI fc, l, g', a1, a2, a3, a4, M, a6', a7, a8, a9, a10, a11, a12, a13, a14, a15, A, B, C)) : ∃ n, wX_collect_24 post n 0 f l g a1 a2 a3 a4 a5 a6 a7 a8 a9 a10 a11 a12 a13 a14 a15 a16 a17 a18 :=
  pk_loop (σ := Int32 × (Nat → Int32) × (Nat → Int32) × (Nat → Int32) × (Nat → Int32)) (fun n i s => wX_collect_24 post n (nI i) f l s.1 a1 a2 a3 a4 s.2.1 a6 a7 a8 a9 a10 a11 a12 a13 a14 a15 s.2.2.1 s.2.2.2.1 s.2.2.2.2) (fun i s => ml_K a1 s.2.1 (fun r => ∃ k, k < i ∧ r = a7 k) E) 6 0 (g, a5, a16, a17, a18) (by omega)
    (ml_K_D hK (fun r hr => by
      obtain ⟨t, ht, _⟩ := hr
      exact absurd ht (by omega)))
    (fun n s h => pk_le 6 6 (fun _ => ml_c48 hT hE h H) (fun z => absurd z (by omega)))
    (fun n i s hi h hn => pk_le 6 i (fun z => absurd z (by omega)) (fun _ => ⟨vp_in_nI hi (by decide), by
      rw [nI_clamp (by omega)]
      exact ml_mark (hT7 i hi) h.1 (fun M A B C k2 k3 k4 k5 => nm_r (nI_1 i) (hn (0, M, A, B, C) (ml_K_D (ml_K_step h (hE7 i hi) k2 k3 k4 k5) (fun r hr => by
        obtain ⟨t, ht, e⟩ := hr
        by_cases q : t = i
        · exact Or.inr (by rw [e, q])
        · exact Or.inl ⟨t, by omega, e⟩))))⟩))
theorem ml_c2 {post : St1 → Prop} (H : ∀ M, (∀ j, j < 512 → M j = 0) → ∃ n, wX_collect_24 post n 0 f l g a1 a2 a3 a4 M a6 a7 a8 a9 a10 a11 a12 a13 a14 a15 a16 a17 a18) : ∃ n, wX_collect_2 post f l g n 0 a1 a2 a3 a4 a5 a6 a7 a8 a9 a10 a11 a12 a13 a14 a15 a16 a17 a18 :=
  pk_loop (fun n i s => wX_collect_2 post f l g n (nI i) a1 a2 a3 a4 s a6 a7 a8 a9 a10 a11 a12 a13 a14 a15 a16 a17 a18) (fun i s => ∀ j, j < i → s j = 0) 512 0 a5 (by omega) (fun j hj => absurd hj (by omega))
    (fun n s h => pk_le 512 512 (fun _ => H s h) (fun z => absurd z (by omega)))
    (fun n i s hi h hn => pk_le 512 i (fun z => absurd z (by omega)) (fun _ => ⟨vp_in_nI hi (by decide), nm_e (nm_r (nI_1 i) (hn _ (fun j hj => by
      rw [nI_clamp (by omega)]
      by_cases e : j = i
      · rw [e, pk_us]
      · rw [pk_un e]
        exact h j (by omega))))⟩))
theorem ml_collect {post : St1 → Prop} {Q : Nat → Prop} {R : List Int32} (hR : R.length ≤ 7) (hT7 : ∀ k, k < 6 → ml_T a1 Q 6 (a7 k)) (hR7 : ∀ k, k < 6 → a7 k ∈ R) (hT : ∀ t, t < 4 → ml_T a1 Q 6 (a10 t)) (hRt : ∀ t, t < 4 → a10 t = -1 ∨ a10 t ∈ R)
    (H : ∀ fc g' M a6' A B C, 36 ≤ fc → ml_F fc a6' → (∀ k, k < 6 → ml_T a1 (ml_U fc a6') 6 (a7 k)) → (∀ t, t < 4 → ml_T a1 (ml_U fc a6') 6 (a10 t)) → post (nI fc, l, g', a1, a2, a3, a4, M, a6', a7, a8, a9, a10, a11, a12, a13, a14, a15, A, B, C)) : wpX_collect post (f, l, g, a1, a2, a3, a4, a5, a6, a7, a8, a9, a10, a11, a12, a13, a14, a15, a16, a17, a18) := by
  unfold wpX_collect
  refine ml_c2 (fun M0 h0 => ml_c24 (E := fun r => r = -1 ∨ r ∈ R) hT7 (fun k hk => Or.inr (hR7 k hk)) hT hRt ⟨fun j hj hm => absurd (h0 j hj) hm, fun _ z => absurd z (fun y => y), fun j hj hm => absurd (h0 j hj) hm⟩ (fun fc g' M a6' A B C hK hG => ?_))
  obtain ⟨gF, gU, gc⟩ := ml_G_F hG
  obtain ⟨k1, k2, k3⟩ := hK
  have tm : ∀ r, ml_T a1 Q 6 r → (r = -1 ∨ ∃ j, j < 512 ∧ r = nI j ∧ M j ≠ 0) → ml_T a1 (ml_U fc a6') 6 r := fun r t hr =>
    ml_T_mono (fun j hj p => ⟨gU j hj p, rfl, rfl⟩) 6 r (ml_T_marked k1 6 r t hr)
  have cn : ml_cnt M 512 ≤ (R.flatMap (ml_N a1 6)).length := by
    refine ml_cnt_le _ M 512 (fun j hj hm => ?_)
    obtain ⟨r, hr, hj'⟩ := k3 j hj hm
    rcases hr with e | hr
    · rw [e, ml_N_m1] at hj'
      exact absurd hj' List.not_mem_nil
    · exact List.mem_flatMap.mpr ⟨r, hr, hj'⟩
  have cl := ml_flat_len a1 R
  exact H fc g' M a6' A B C (by omega) gF (fun k hk => tm _ (hT7 k hk) (k2 _ (Or.inl ⟨k, hk, rfl⟩))) (fun t ht => tm _ (hT t ht) (k2 _ (Or.inr ⟨t, ht, rfl⟩)))
end
end
section
/-! newNode and written -/
theorem ml_U_new {F j : Nat} {a6 : Nat → Int32} (h : ml_F (F + 1) a6) (e : a6 F = nI j) : ¬ ml_U (F + 1) a6 j ∧ ml_U F a6 j := by
  refine ⟨fun u => u F (by omega) e, fun i hi => ?_⟩
  rw [← e]
  exact h.2.2 i F hi (by omega)
/-- a new node: its two children are written; nothing else changes -/
theorem ml_c2_at {c : Nat → Int32} {j s : Nat} {x y : Int32} (hs : s < 2) : upd (upd c (2 * j + s) x) (2 * j + (1 - s)) y (2 * j + s) = x ∧ upd (upd c (2 * j + s) x) (2 * j + (1 - s)) y (2 * j + (1 - s)) = y := by
  refine ⟨?_, pk_us⟩
  rw [pk_un (by omega), pk_us]
theorem ml_c2_fr {c : Nat → Int32} {j s i : Nat} {x y : Int32} (hs : s < 2) (hi : i ≠ j) : upd (upd c (2 * j + s) x) (2 * j + (1 - s)) y (2 * i) = c (2 * i) ∧ upd (upd c (2 * j + s) x) (2 * j + (1 - s)) y (2 * i + 1) = c (2 * i + 1) := by
  refine ⟨?_, ?_⟩
  · rw [pk_un (by omega), pk_un (by omega)]
  · rw [pk_un (by omega), pk_un (by omega)]
theorem ml_c2_T {c : Nat → Int32} {P : Nat → Prop} {j s h : Nat} {x y : Int32} (hs : s < 2) (hj : j < 512) (hp : P j) (tx : ml_T (upd (upd c (2 * j + s) x) (2 * j + (1 - s)) y) P h x) (ty : ml_T (upd (upd c (2 * j + s) x) (2 * j + (1 - s)) y) P h y) : ml_T (upd (upd c (2 * j + s) x) (2 * j + (1 - s)) y) P (h + 1) (nI j) := by
  obtain ⟨e1, e2⟩ := ml_c2_at (c := c) (j := j) (x := x) (y := y) hs
  have hs' : s = 0 ∨ s = 1 := by omega
  rcases hs' with rfl | rfl
  · refine Or.inr ⟨j, hj, rfl, hp, ?_, ?_⟩
    · rw [Nat.add_zero] at e1
      rw [Nat.add_zero] at tx ⊢
      rw [e1]
      exact tx
    · exact (congrArg (ml_T _ P h) e2).mpr ty
  · refine Or.inr ⟨j, hj, rfl, hp, ?_, ?_⟩
    · exact (congrArg (ml_T _ P h) e2).mpr ty
    · exact (congrArg (ml_T _ P h) e1).mpr tx
theorem ml_path_fr {c c' a4 a4' : Nat → Int32} {P : Nat → Prop} {lv : Int32} {key : Nat} (H : ∀ j, j < 512 → P j → c' (2 * j) = c (2 * j) ∧ c' (2 * j + 1) = c (2 * j + 1)) (H4 : ∀ j, a4 j = lv → a4' j = lv) : ∀ (h : Nat) (n : Int32), ml_T c P h n → ml_path c a4 lv key h n → ml_path c' a4' lv key h n := by
  intro h
  induction h with
  | zero => intro n _ _; exact trivial
  | succ h ih =>
    intro n t p
    obtain ⟨j, hj, rfl, e, p⟩ := p
    rcases t with z | ⟨j', hj', z, hp, t0, t1⟩
    · exact absurd z.symm (ml_nIm1 hj)
    · have : j = j' := ml_nIinj hj hj' z
      subst this
      refine ⟨j, hj, rfl, H4 j e, ?_⟩
      have q : c' (2 * j + key / 2 ^ (h - 1) % 2) = c (2 * j + key / 2 ^ (h - 1) % 2) := by
        have : key / 2 ^ (h - 1) % 2 = 0 ∨ key / 2 ^ (h - 1) % 2 = 1 := by omega
        rcases this with y | y
        · rw [y]; exact (H j hj hp).1
        · rw [y]; exact (H j hj hp).2
      rw [q]
      exact ih _ (ml_T_side t0 t1 (by omega)) p
section
variable {f l g : Int32} {a1 a2 a3 a4 a5 a6 a7 a8 a9 a10 a11 a12 a13 a14 a15 a16 a17 a18 : Nat → Int32}
theorem ml_new1 {post : Int32 → St1 → Prop} {F j : Nat} (hF : F < 512) (hj : j < 512) (e : a6 F = nI j) (H : post (nI j) (nI F, l, g, a1, a2, a3, upd a4 j l, a5, a6, a7, a8, a9, a10, a11, a12, a13, a14, a15, a16, a17, a18)) : wpX_newNode post (nI (F + 1), l, g, a1, a2, a3, a4, a5, a6, a7, a8, a9, a10, a11, a12, a13, a14, a15, a16, a17, a18) :=
  nm_r (nI_pred F) ⟨vp_in_nI hF (by decide), nm_r (e' := nI j) (by rw [nI_clamp (by omega)]; exact e) ⟨vp_in_nI hj (by decide), nm_r (e' := upd a4 j l) (by rw [nI_clamp (by omega)]) H⟩⟩
theorem ml_w135s {post : Int32 → St1 → Prop} {m b k F j key s : Nat} {x6 old oc : Int32} (hk : key < 32) (hb : b < 5) (hs : key / 2 ^ b % 2 = s) (hg : k < 16) (hF : F < 512) (hj : j < 512) (e6 : a6 F = nI j) (eA : a16 k = old) (e16 : x6.toInt16.toInt32 = x6)
    (hoc : (old = -1 ∧ oc = -1) ∨ (∃ o, o < 512 ∧ old = nI o ∧ o ≠ j ∧ oc = a1 (2 * o + (1 - s)) ∧ vp_nar .short oc = oc))
    (H : wX_written_135 post (nI key) m (nI j) (nI (b + 1)) (nI F) l (nI k) (upd (upd a1 (2 * j + s) x6) (2 * j + (1 - s)) oc) a2 a3 (upd a4 j l) a5 a6 a7 a8 a9 a10 a11 a12 a13 a14 a15 a16 a17 a18) : wX_written_135 post (nI key) (m + 1) x6 (nI b) (nI (F + 1)) l (nI (k + 1)) a1 a2 a3 a4 a5 a6 a7 a8 a9 a10 a11 a12 a13 a14 a15 a16 a17 a18 := by
  have es := ml_bit key hk b hb
  rw [hs] at es
  have s2 : s < 2 := by omega
  have o1 : ∀ i : Nat, 2 * nI i + 1 - nI s = nI (2 * i + (1 - s)) := by
    intro i
    have : 2 * nI i + 1 = nI (2 * i + 1) := ml_two i 1
    rw [this, pk_sub (by omega), show 2 * i + 1 - s = 2 * i + (1 - s) by omega]
  refine br_f (nI_ge (b := 5) hb (by decide)) (nm_r (nI_pred k) ⟨vp_in_nI hg (by decide), nm_r (e' := old) (by rw [nI_clamp (by omega)]; exact eA) (nm_r (e' := nI s) es (ml_new1 hF hj e6 ⟨?_, nm_r (e' := upd a1 (2 * j + s) x6) ?_ ?_⟩))⟩)
  · rw [ml_two]
    exact vp_in_nI (by omega) (by decide)
  · rw [ml_two, nI_clamp (by omega), e16]
  · rcases hoc with ⟨rfl, rfl⟩ | ⟨o, ho, rfl, hne, e1, e2⟩
    · refine br_f (by decide) ⟨?_, nm_r (e' := upd (upd a1 (2 * j + s) x6) (2 * j + (1 - s)) (-1)) ?_ (nm_r (nI_1 b) H)⟩
      · rw [o1]
        exact vp_in_nI (by omega) (by decide)
      · rw [o1, nI_clamp (by omega)]
    · refine br_t (nI_pos' (by omega)) ⟨?_, ?_, nm_r (e' := upd (upd a1 (2 * j + s) x6) (2 * j + (1 - s)) oc) ?_ (nm_r (nI_1 b) H)⟩
      · rw [o1]
        exact vp_in_nI (by omega) (by decide)
      · rw [o1]
        exact vp_in_nI (by omega) (by decide)
      · rw [o1, o1, nI_clamp (by omega), nI_clamp (by omega), pk_un (show 2 * o + (1 - s) ≠ 2 * j + s by omega), ← e1, e2]
theorem ml_w135 {post : Int32 → St1 → Prop} {F key j0 : Nat} {x : Int32} (hk : key < 32) (hF : ml_F F a6) (h5 : 5 ≤ F) (hx : ml_T a1 (ml_U F a6) 1 x) (hp : ml_path a1 a4 l key 1 x) (hl : x = nI j0) (hA : ∀ i, i < 5 → ml_T a1 (ml_U F a6) (6 - i) (a16 i))
    (H : ∀ r c s4, ml_T c (ml_U (F - 5) a6) 6 r → (∀ j, j < 512 → ml_U F a6 j → c (2 * j) = a1 (2 * j) ∧ c (2 * j + 1) = a1 (2 * j + 1)) → ml_path c s4 l key 6 r → ml_lf c key 5 r = nI j0 → (∀ j, s4 j = a4 j ∨ s4 j = l) → post r (nI (F - 5), l, nI 0, c, a2, a3, s4, a5, a6, a7, a8, a9, a10, a11, a12, a13, a14, a15, a16, a17, a18)) :
    ∃ n, wX_written_135 post (nI key) n x 0 (nI F) l (nI 5) a1 a2 a3 a4 a5 a6 a7 a8 a9 a10 a11 a12 a13 a14 a15 a16 a17 a18 := by
  refine pk_loop (σ := Int32 × (Nat → Int32) × (Nat → Int32)) (fun n b s => wX_written_135 post (nI key) n s.1 (nI b) (nI (F - b)) l (nI (5 - b)) s.2.1 a2 a3 s.2.2 a5 a6 a7 a8 a9 a10 a11 a12 a13 a14 a15 a16 a17 a18)
    (fun b s => ml_T s.2.1 (ml_U (F - b) a6) (b + 1) s.1 ∧ (∀ j, j < 512 → ml_U F a6 j → s.2.1 (2 * j) = a1 (2 * j) ∧ s.2.1 (2 * j + 1) = a1 (2 * j + 1)) ∧ ml_path s.2.1 s.2.2 l key (b + 1) s.1 ∧ ml_lf s.2.1 key b s.1 = nI j0 ∧ (∀ j, s.2.2 j = a4 j ∨ s.2.2 j = l)) 5 0 (x, a1, a4) (by omega) ⟨hx, fun _ _ _ => ⟨rfl, rfl⟩, hp, hl, fun _ => Or.inl rfl⟩ ?_ ?_
  · intro n s h
    obtain ⟨h1, h2, h3, h4, h6⟩ := h
    exact pk_le 5 5 (fun _ => H s.1 s.2.1 s.2.2 h1 h2 h3 h4 h6) (fun z => absurd z (by omega))
  · intro n b s hb h hn
    obtain ⟨x6, c, s4⟩ := s
    obtain ⟨h1, h2, h3, h4, h6⟩ := h
    dsimp only at h1 h2 h3 h4 h6 ⊢
    have ef : F - b = (F - (b + 1)) + 1 := by omega
    have eg : 5 - b = (5 - (b + 1)) + 1 := by omega
    have hF1 : ml_F (F - (b + 1) + 1) a6 := ml_F_le hF (by omega)
    obtain ⟨j, hj, e6⟩ := hF1.2.1 (F - (b + 1)) (by omega)
    obtain ⟨nU, uU⟩ := ml_U_new hF1 e6
    have to : ml_T c (ml_U (F - b) a6) (b + 2) (a16 (5 - (b + 1))) := by
      have t := hA (5 - (b + 1)) (by omega)
      rw [show 6 - (5 - (b + 1)) = b + 2 by omega] at t
      exact ml_T_mono (fun j hj p => ⟨ml_U_le (by omega) j p, (h2 j hj p).1, (h2 j hj p).2⟩) _ _ t
    rw [ef] at h1 to ⊢
    rw [eg]
    have s2 : key / 2 ^ b % 2 < 2 := by omega
    -- the child that hangs beside the way
    have hoc : ∃ oc, ml_T c (ml_U (F - (b + 1) + 1) a6) (b + 1) oc ∧ ((a16 (5 - (b + 1)) = -1 ∧ oc = -1) ∨ (∃ o, o < 512 ∧ a16 (5 - (b + 1)) = nI o ∧ o ≠ j ∧ oc = c (2 * o + (1 - key / 2 ^ b % 2)) ∧ vp_nar .short oc = oc)) := by
      rcases to with z | ⟨o, ho, z, hpo, t0, t1⟩
      · exact ⟨-1, ml_T_m1 _, Or.inl ⟨z, rfl⟩⟩
      · have t := ml_T_side t0 t1 (show 1 - key / 2 ^ b % 2 < 2 by omega)
        exact ⟨_, t, Or.inr ⟨o, ho, z, fun y => nU (y ▸ hpo), rfl, ml_T_nar t⟩⟩
    obtain ⟨oc, toc, hoc⟩ := hoc
    have fr : ∀ i, i < 512 → ml_U (F - (b + 1) + 1) a6 i → upd (upd c (2 * j + key / 2 ^ b % 2) x6) (2 * j + (1 - key / 2 ^ b % 2)) oc (2 * i) = c (2 * i) ∧ upd (upd c (2 * j + key / 2 ^ b % 2) x6) (2 * j + (1 - key / 2 ^ b % 2)) oc (2 * i + 1) = c (2 * i + 1) :=
      fun i _ hu => ml_c2_fr s2 (fun y => nU (y ▸ hu))
    have frT : ∀ (h : Nat) (n : Int32), ml_T c (ml_U (F - (b + 1) + 1) a6) h n → ml_T (upd (upd c (2 * j + key / 2 ^ b % 2) x6) (2 * j + (1 - key / 2 ^ b % 2)) oc) (ml_U (F - (b + 1)) a6) h n :=
      ml_T_mono (fun i hi p => ⟨ml_U_le (by omega) i p, (fr i hi p).1, (fr i hi p).2⟩)
    have s4j : ∀ i, s4 i = l → upd s4 j l i = l := by
      intro i hi
      by_cases e : i = j
      · rw [e, pk_us]
      · rw [pk_un e]; exact hi
    have at1 := (ml_c2_at (c := c) (j := j) (x := x6) (y := oc) s2).1
    refine ml_w135s hk hb rfl (by omega) (by have := hF.1; omega) hj e6 rfl (ml_T_sh h1) hoc (hn (nI j, upd (upd c (2 * j + key / 2 ^ b % 2) x6) (2 * j + (1 - key / 2 ^ b % 2)) oc, upd s4 j l) ⟨?_, ?_, ?_, ?_, ?_⟩)
    · exact ml_c2_T s2 hj uU (frT _ _ h1) (frT _ _ toc)
    · intro i hi hu
      have q := fr i hi (ml_U_le (by omega) i hu)
      have p := h2 i hi hu
      exact ⟨q.1.trans p.1, q.2.trans p.2⟩
    · refine ⟨j, hj, rfl, pk_us, ?_⟩
      show ml_path _ _ l key (b + 1) (upd (upd c (2 * j + key / 2 ^ b % 2) x6) (2 * j + (1 - key / 2 ^ b % 2)) oc (2 * j + key / 2 ^ (b + 1 - 1) % 2))
      rw [Nat.add_sub_cancel, at1]
      exact ml_path_fr fr s4j _ _ h1 h3
    · show ml_lf (upd (upd c (2 * j + key / 2 ^ b % 2) x6) (2 * j + (1 - key / 2 ^ b % 2)) oc) key (b + 1) (nI j) = nI j0
      rw [ml_lf_nI _ key b hj, at1, ml_lf_fr (h := 1) fr b x6 (by rw [Nat.add_comm 1 b]; exact h1)]
      exact h4
    · intro i
      show upd s4 j l i = a4 i ∨ upd s4 j l i = l
      by_cases e : i = j
      · rw [e, pk_us]; exact Or.inr rfl
      · rw [pk_un e]; exact h6 i
theorem ml_w72 {post : Int32 → St1 → Prop} {P : Nat → Prop} {key : Nat} {x4 : Int32} (hk : key < 32) : ∀ (b : Nat), b ≤ 5 → ∀ (x5 : Int32) (A : Nat → Int32), ml_T a1 P (b + 1) x5 → (∀ i, i < 5 - b → ml_T a1 P (6 - i) (A i)) →
    (∀ A', (∀ i, i < 5 → ml_T a1 P (6 - i) (A' i)) → ∃ m, wX_written_135 post (nI key) m x4 0 f l (nI 5) a1 a2 a3 a4 a5 a6 a7 a8 a9 a10 a11 a12 a13 a14 a15 A' a17 a18) → wX_written_72 post (nI key) x4 f l (b + 1) x5 (ml_bc b) (nI (5 - b)) a1 a2 a3 a4 a5 a6 a7 a8 a9 a10 a11 a12 a13 a14 a15 A a17 a18 := by
  intro b
  induction b with
  | zero =>
    intro _ x5 A _ hA H
    exact br_t (show (-1 : Int32) < 0 from ml_m1lt) (H A hA)
  | succ b ih =>
    intro hb x5 A t hA H
    have i16 := vp_in_nI (show 5 - (b + 1) < 16 by omega) (show 16 < 2 ^ 31 by decide)
    have hA' : ∀ i, i < 5 - b → ml_T a1 P (6 - i) (upd A (5 - (b + 1)) x5 i) := by
      intro i hi
      by_cases e : i = 5 - (b + 1)
      · rw [e, pk_us, show 6 - (5 - (b + 1)) = b + 1 + 1 by omega]
        exact t
      · rw [pk_un e]
        exact hA i (by omega)
    have eg : nI (5 - (b + 1)) + 1 = nI (5 - b) := by rw [nI_1, show 5 - (b + 1) + 1 = 5 - b by omega]
    refine br_f (nI_pos (n := b) (by omega)) ⟨i16, nm_r (e' := upd A (5 - (b + 1)) x5) (by rw [nI_clamp (by omega), ml_T_sh t]) (nm_r eg ?_)⟩
    rcases t with rfl | ⟨j, hj, rfl, _, t0, t1⟩
    · exact br_t ml_m1lt (nm_r (ml_bc1 b) (ih (by omega) _ _ (ml_T_m1 _) hA' H))
    · have e : 2 * nI j + ((nI key >>> (nI b &&& 31)) &&& 1) = nI (2 * j + key / 2 ^ b % 2) := by
        rw [ml_bit key hk b (by omega), ml_two]
      exact br_f (nI_pos (by omega)) ⟨pk_in (2 * j + key / 2 ^ b % 2) 1024 (by omega) e, nm_r (congrArg a1 (pk_cl _ e)) (nm_r (ml_bc1 b) (ih (by omega) _ _ (ml_T_side t0 t1 (by omega)) hA' H))⟩
end
/-- the written tree: the way to its key is new, the leaf holds the value -/
def ml_nw (c a2 a3 a4 : Nat → Int32) (lv r : Int32) (key : Nat) (v b : Int32) : Prop := ml_path c a4 lv key 6 r ∧ ∃ j, j < 512 ∧ ml_lf c key 5 r = nI j ∧ a2 j = v ∧ a3 j = b
section
variable {f l g : Int32} {a1 a2 a3 a4 a5 a6 a7 a8 a9 a10 a11 a12 a13 a14 a15 a16 a17 a18 : Nat → Int32}
theorem ml_written {post : Int32 → St1 → Prop} {fc w key : Nat} {root : Int32} (hw : w < 24) (hk : key < 32) (ek : a13 w = nI key) (hb : a15 w = 0 ∨ a15 w = 1) (hF : ml_F fc a6) (h6 : 6 ≤ fc) (T : ml_T a1 (ml_U fc a6) 6 root)
    (H : ∀ r c b2 b3 s4 A, ml_T c (ml_U (fc - 6) a6) 6 r → ml_fr (ml_U fc a6) a1 a2 a3 c b2 b3 → (∀ j, s4 j = a4 j ∨ s4 j = l) → ml_nw c b2 b3 s4 l r key (a14 w) (a15 w) → post r (nI (fc - 6), l, 0, c, b2, b3, s4, a5, a6, a7, a8, a9, a10, a11, a12, a13, a14, a15, A, a17, a18)) : wpX_written post (nI fc, l, g, a1, a2, a3, a4, a5, a6, a7, a8, a9, a10, a11, a12, a13, a14, a15, a16, a17, a18) root (nI w) := by
  obtain ⟨F, rfl⟩ : ∃ F, fc = F + 1 := ⟨fc - 1, by omega⟩
  obtain ⟨j, hj, e6⟩ := hF.2.1 F (by omega)
  obtain ⟨nU, uU⟩ := ml_U_new hF e6
  have i24 := vp_in_nI hw (show 24 < 2 ^ 31 by decide)
  have i512 := vp_in_nI hj (show 512 < 2 ^ 31 by decide)
  have cj : (nI j).toNatClampNeg = j := nI_clamp (by omega)
  have cw : (nI w).toNatClampNeg = w := nI_clamp (by omega)
  have d0 : 2 * nI j = nI (2 * j) := ml_two0 j
  have d1 : 2 * nI j + 1 = nI (2 * j + 1) := ml_two j 1
  have hF512 := hF.1
  have ne : ∀ i, ml_U (F + 1) a6 i → i ≠ j := fun i hu y => nU (y ▸ hu)
  have fr : ∀ i, i < 512 → ml_U (F + 1) a6 i → upd (upd a1 (2 * j) (-1)) (2 * j + 1) (-1) (2 * i) = a1 (2 * i) ∧ upd (upd a1 (2 * j) (-1)) (2 * j + 1) (-1) (2 * i + 1) = a1 (2 * i + 1) := by
    intro i _ hu
    have := ne i hu
    refine ⟨?_, ?_⟩
    · rw [pk_un (by omega), pk_un (by omega)]
    · rw [pk_un (by omega), pk_un (by omega)]
  have tr : ml_T (upd (upd a1 (2 * j) (-1)) (2 * j + 1) (-1)) (ml_U F a6) 6 root :=
    ml_T_mono (fun i hi p => ⟨ml_U_le (by omega) i p, (fr i hi p).1, (fr i hi p).2⟩) 6 root T
  have tl : ml_T (upd (upd a1 (2 * j) (-1)) (2 * j + 1) (-1)) (ml_U F a6) 1 (nI j) := by
    refine Or.inr ⟨j, hj, rfl, uU, ?_, ?_⟩
    · show upd (upd a1 (2 * j) (-1)) (2 * j + 1) (-1) (2 * j) = -1
      rw [pk_un (by omega), pk_us]
    · show upd (upd a1 (2 * j) (-1)) (2 * j + 1) (-1) (2 * j + 1) = -1
      rw [pk_us]
  refine ⟨i24, nm_r (e' := nI key) (by rw [cw]; exact ek) (ml_new1 (by omega) hj e6 ⟨?_, nm_r (e' := upd a1 (2 * j) (-1)) (by rw [d0, nI_clamp (by omega)]) ⟨?_, nm_r (e' := upd (upd a1 (2 * j) (-1)) (2 * j + 1) (-1)) (by rw [d1, nI_clamp (by omega)]) ⟨i24, i512, nm_r (e' := upd a2 j (a14 w)) (by rw [cj, cw]) ⟨i24, i512, nm_r (e' := upd a3 j (a15 w)) (by rw [cj, cw, ml_vnb hb]) ?_⟩⟩⟩⟩)⟩
  · rw [d0]
    exact vp_in_nI (by omega) (by decide)
  · rw [d1]
    exact vp_in_nI (by omega) (by decide)
  · refine ⟨6, ml_w72 (P := ml_U F a6) hk 5 (Nat.le_refl 5) root a16 tr (fun i hi => absurd hi (by omega)) (fun A hA => ml_w135 (j0 := j) hk (ml_F_le hF (by omega)) (by omega) tl ⟨j, hj, rfl, pk_us, trivial⟩ rfl hA (fun r c s4 q1 q2 q3 q4 q5 => H r c _ _ s4 A q1 ?_ ?_ ⟨q3, j, hj, q4, pk_us, pk_us⟩))⟩
    · intro i hi hu
      have p := fr i hi hu
      have q := q2 i hi (ml_U_le (by omega) i hu)
      have := ne i hu
      exact ⟨q.1.trans p.1, q.2.trans p.2, pk_un this, pk_un this⟩
    · intro i
      rcases q5 i with y | y
      · by_cases e : i = j
        · rw [e, pk_us] at y
          rw [e]
          exact Or.inr y
        · rw [pk_un e] at y
          exact Or.inl y
      · exact Or.inr y
end
end
section
/-! commit -/
theorem ml_roots {r : Nat → Int32} {lt : Nat} {b1 b2 : Int32} (e : r ((lt + 1) % 6) = r ((lt + 6) % 6)) (k : Nat) (hk : k < 6) : r k ∈ [r ((lt + 2) % 6), r ((lt + 3) % 6), r ((lt + 4) % 6), r ((lt + 5) % 6), r ((lt + 6) % 6), b1, b2] := by
  have : k = (lt + 1) % 6 ∨ k = (lt + 2) % 6 ∨ k = (lt + 3) % 6 ∨ k = (lt + 4) % 6 ∨ k = (lt + 5) % 6 ∨ k = (lt + 6) % 6 := by omega
  rcases this with z | z | z | z | z | z
  · rw [z, e]; simp only [List.mem_cons, true_or, or_true]
  · rw [z]; simp only [List.mem_cons, true_or, or_true]
  · rw [z]; simp only [List.mem_cons, true_or, or_true]
  · rw [z]; simp only [List.mem_cons, true_or, or_true]
  · rw [z]; simp only [List.mem_cons, true_or, or_true]
  · rw [z]; simp only [List.mem_cons, true_or, or_true]
section
variable {f l g : Int32} {a1 a2 a3 a4 a5 a6 a7 a8 a9 a10 a11 a12 a13 a14 a15 a16 a17 a18 : Nat → Int32}
theorem ml_c114 {post : Int32 → St1 → Prop} {t w lt fc : Nat} (ht : t < 4) (hl : lt < 2 ^ 30) (hw : a12 t = nI w) (w6 : w ≤ 6) (hW : ml_W a12 a13 a15) (hF : ml_F fc a6) (h36 : 36 ≤ fc) (T : ml_T a1 (ml_U fc a6) 6 (a7 (lt % 6)))
    (H : ∀ g' c b2 b3 s4 a7' A, ml_T c (ml_U (fc - 6 * w) a6) 6 (a7' (lt % 6)) → ml_fr (ml_U fc a6) a1 a2 a3 c b2 b3 → (∀ k, k ≠ lt % 6 → a7' k = a7 k) → (∀ j, s4 j = a4 j ∨ s4 j = nI lt) →
      (1 ≤ w → ∀ key, key < 32 → a13 (6 * t + (w - 1)) = nI key → ml_nw c b2 b3 s4 (nI lt) (a7' (lt % 6)) key (a14 (6 * t + (w - 1))) (a15 (6 * t + (w - 1)))) →
      post (nI lt) (nI (fc - 6 * w), nI lt, g', c, b2, b3, s4, a5, a6, a7', a8, a9, a10, a11, a12, a13, a14, a15, A, a17, a18)) : ∃ n, wX_commit_114 post (nI t) n (nI (6 * t)) (nI fc) (nI lt) g a1 a2 a3 a4 a5 a6 a7 a8 a9 a10 a11 a12 a13 a14 a15 a16 a17 a18 := by
  have i4 := vp_in_nI ht (show 4 < 2 ^ 31 by decide)
  have e12 : 6 * nI t + a12 (nI t).toNatClampNeg = nI (6 * t + w) := by
    rw [nI_clamp (by omega), hw, show (6 : Int32) = nI 6 from rfl, pk_mul, nI_add]
  refine pk_loop (σ := Int32 × (Nat → Int32) × (Nat → Int32) × (Nat → Int32) × (Nat → Int32) × (Nat → Int32) × (Nat → Int32)) (fun n i s => wX_commit_114 post (nI t) n (nI (6 * t + i)) (nI (fc - 6 * i)) (nI lt) s.1 s.2.1 s.2.2.1 s.2.2.2.1 s.2.2.2.2.1 a5 a6 s.2.2.2.2.2.1 a8 a9 a10 a11 a12 a13 a14 a15 s.2.2.2.2.2.2 a17 a18)
    (fun i s => ml_T s.2.1 (ml_U (fc - 6 * i) a6) 6 (s.2.2.2.2.2.1 (lt % 6)) ∧ ml_fr (ml_U fc a6) a1 a2 a3 s.2.1 s.2.2.1 s.2.2.2.1 ∧ (∀ k, k ≠ lt % 6 → s.2.2.2.2.2.1 k = a7 k) ∧ (∀ j, s.2.2.2.2.1 j = a4 j ∨ s.2.2.2.2.1 j = nI lt) ∧
      (1 ≤ i → ∀ key, key < 32 → a13 (6 * t + (i - 1)) = nI key → ml_nw s.2.1 s.2.2.1 s.2.2.2.1 s.2.2.2.2.1 (nI lt) (s.2.2.2.2.2.1 (lt % 6)) key (a14 (6 * t + (i - 1))) (a15 (6 * t + (i - 1))))) w 0 (g, a1, a2, a3, a4, a7, a16) (by omega)
    ⟨T, ml_fr_refl, fun _ _ => rfl, fun _ => Or.inl rfl, fun z => absurd z (by omega)⟩ ?_ ?_
  · intro n s h
    obtain ⟨h1, h2, h3, h4, h5⟩ := h
    exact ⟨i4, pk_le (6 * t + w) (6 * t + w) (fun _ => H _ _ _ _ _ _ _ h1 h2 h3 h4 h5) (fun z => absurd z (by omega)) e12⟩
  · intro n i s hi h hn
    obtain ⟨g1, c, b2, b3, s4, r7, A⟩ := s
    obtain ⟨h1, h2, h3, h4, h5⟩ := h
    dsimp only at h1 h2 h3 h4 h5 ⊢
    obtain ⟨key, hk, ek⟩ := hW.2.1 (6 * t + i) (by omega)
    refine ⟨i4, pk_le (6 * t + w) (6 * t + i) (fun z => absurd z (by omega)) (fun _ => ⟨ml_60, ml_60, ml_m6i (by omega), ?_⟩) e12⟩
    rw [ml_m6c (show lt < 2 ^ 31 by omega)]
    refine ml_written (by omega) hk ek (hW.2.2 _ (by omega)) (ml_F_le hF (by omega)) (by omega) h1 (fun r c' b2' b3' s4' A' q1 q2 q3 q4 => ⟨ml_m6i (by omega), nm_r (e' := upd r7 (lt % 6) r) (by rw [ml_T_sh q1]) (nm_r (e' := nI (6 * t + (i + 1))) (nI_1 _) ?_)⟩)
    have ef : fc - 6 * i - 6 = fc - 6 * (i + 1) := by omega
    rw [ef] at q1 ⊢
    refine hn (0, c', b2', b3', s4', upd r7 (lt % 6) r, A') ⟨?_, ?_, ?_, ?_, ?_⟩
    · show ml_T c' (ml_U (fc - 6 * (i + 1)) a6) 6 (upd r7 (lt % 6) r (lt % 6))
      rw [pk_us]
      exact q1
    · exact ml_fr_trans h2 q2 (fun j => ml_U_le (by omega) j)
    · intro k hk'
      show upd r7 (lt % 6) r k = a7 k
      rw [pk_un hk']
      exact h3 k hk'
    · intro j
      show s4' j = a4 j ∨ s4' j = nI lt
      rcases q3 j with y | y
      · rw [y]; exact h4 j
      · exact Or.inr y
    · intro _ key' hk' ek'
      show ml_nw c' b2' b3' s4' (nI lt) (upd r7 (lt % 6) r (lt % 6)) key' (a14 (6 * t + (i + 1 - 1))) (a15 (6 * t + (i + 1 - 1)))
      rw [Nat.add_sub_cancel] at ek' ⊢
      rw [pk_us]
      have : key = key' := (nI_eq (by omega) (by omega)).mp (ek.symm.trans ek')
      rw [← this]
      exact q4
/-- what a commit leaves behind -/
def ml_done (a1 a2 a3 a4 a7 a10 a12 a13 a14 a15 : Nat → Int32) (t lt fc' : Nat) (c b2 b3 s4 a6' a7' : Nat → Int32) : Prop :=
  ml_F fc' a6' ∧ (∀ k, k < 6 → ml_T c (ml_U fc' a6') 6 (a7' k)) ∧ (∀ t', t' < 4 → ml_T c (ml_U fc' a6') 6 (upd a10 t (-1) t')) ∧
  (∀ k, k < 6 → k ≠ (lt + 1) % 6 → a7' k = a7 k ∧ ml_sum c b2 b3 (a7 k) = ml_sum a1 a2 a3 (a7 k)) ∧ (∀ j, s4 j = a4 j ∨ s4 j = nI (lt + 1)) ∧
  (a12 t = 1 → ∀ key, key < 32 → a13 (6 * t) = nI key → ml_nw c b2 b3 s4 (nI (lt + 1)) (a7' ((lt + 1) % 6)) key (a14 (6 * t)) (a15 (6 * t)))
/-- behind the collector, or without it -/
theorem ml_cfin {post : Int32 → St1 → Prop} {t lt fc : Nat} {q7 q8 : Nat → Int32} (ht : t < 4) (hl : lt + 1 < 2 ^ 30) (hW : ml_W a12 a13 a15) (hF : ml_F fc a6) (h36 : 36 ≤ fc)
    (hT7 : ∀ k, k < 6 → ml_T a1 (ml_U fc a6) 6 (q7 k)) (hT10 : ∀ t', t' < 4 → ml_T a1 (ml_U fc a6) 6 (upd a10 t (-1) t')) (h7 : ∀ k, k ≠ (lt + 1) % 6 → q7 k = a7 k)
    (H : ∀ fc' g' c b2 b3 s4 a7' A, ml_done a1 a2 a3 a4 a7 a10 a12 a13 a14 a15 t lt fc' c b2 b3 s4 a6 a7' → post (nI (lt + 1)) (nI fc', nI (lt + 1), g', c, b2, b3, s4, a5, a6, a7', q8, a9, upd a10 t (-1), a11, a12, a13, a14, a15, A, a17, a18)) :
    ∀ x, x = 6 * nI t → ∃ n, wX_commit_114 post (nI t) n x (nI fc) (nI (lt + 1)) g a1 a2 a3 a4 a5 a6 q7 q8 a9 (upd a10 t (-1)) a11 a12 a13 a14 a15 a16 a17 a18 := by
  obtain ⟨w, w6, hw⟩ := hW.1 t ht
  refine nm_r (e' := nI (6 * t)) (by rw [show (6 : Int32) = nI 6 from rfl, pk_mul]) (ml_c114 ht hl hw w6 hW hF h36 (hT7 _ (by omega)) (fun g' c b2 b3 s4 a7' A q1 q2 q3 q4 q5 => H (fc - 6 * w) g' c b2 b3 s4 a7' A ⟨ml_F_le hF (by omega), fun k hk => ?_, fun t' ht' => ?_, fun k hk hne => ?_, q4, fun z key hk ek => ?_⟩))
  · by_cases e : k = (lt + 1) % 6
    · rw [e]; exact q1
    · rw [q3 k e]
      exact ml_fr_T q2 (fun j => ml_U_le (by omega) j) (hT7 k hk)
  · exact ml_fr_T q2 (fun j => ml_U_le (by omega) j) (hT10 t' ht')
  · refine ⟨(q3 k hne).trans (h7 k hne), ?_⟩
    rw [← h7 k hne]
    exact ml_fr_sum q2 (hT7 k hk)
  · have w1 : w = 1 := (nI_eq (b := 1) (by omega) (by decide)).mp (hw.symm.trans z)
    subst w1
    exact q5 (Nat.le_refl 1) key hk ek
theorem ml_commit {post : Int32 → St1 → Prop} {t lt fc : Nat} {b1 b2 : Int32} (ht : t < 4) (hl : lt + 1 < 2 ^ 30) (hF : ml_F fc a6) (hT7 : ∀ k, k < 6 → ml_T a1 (ml_U fc a6) 6 (a7 k)) (hT10 : ∀ t, t < 4 → ml_T a1 (ml_U fc a6) 6 (a10 t)) (hW : ml_W a12 a13 a15)
    (hR : ∀ t', t' < 4 → t' ≠ t → a10 t' = -1 ∨ a10 t' = a7 (lt % 6) ∨ a10 t' = b1 ∨ a10 t' = b2)
    (H0 : a8 t = 0 → post (-3) (nI fc, nI lt, g, a1, a2, a3, a4, a5, a6, a7, a8, a9, a10, a11, a12, a13, a14, a15, a16, a17, a18))
    (H1 : ¬ a8 t = 0 → ¬ ml_cs a1 a4 (a9 t) (a11 t) 6 (a7 (lt % 6)) 0 = 0 → ∀ A B C, post (-5) (nI fc, nI lt, 0, a1, a2, a3, a4, a5, a6, a7, upd a8 t 0, a9, upd a10 t (-1), a11, a12, a13, a14, a15, A, B, C))
    (H2 : ¬ a8 t = 0 → ml_cs a1 a4 (a9 t) (a11 t) 6 (a7 (lt % 6)) 0 = 0 → ∀ fc' g' c b2 b3 s4 M a6' a7' A B C, ml_done a1 a2 a3 a4 a7 a10 a12 a13 a14 a15 t lt fc' c b2 b3 s4 a6' a7' →
      post (nI (lt + 1)) (nI fc', nI (lt + 1), g', c, b2, b3, s4, M, a6', a7', upd a8 t 0, a9, upd a10 t (-1), a11, a12, a13, a14, a15, A, B, C)) : wpX_commit post (nI fc, nI lt, g, a1, a2, a3, a4, a5, a6, a7, a8, a9, a10, a11, a12, a13, a14, a15, a16, a17, a18) (nI t) := by
  have i4 := vp_in_nI ht (show 4 < 2 ^ 31 by decide)
  have ct : (nI t).toNatClampNeg = t := nI_clamp (by omega)
  have t7 := hT7 (lt % 6) (by omega)
  unfold wpX_commit
  refine ml_check (lo := 0) (hi := 0) ht (Nat.le_refl 0) (by omega) (fun z => br_f (by decide) (H0 z)) (fun z => br_t rfl ?_)
  rw [ct, ml_m6c (show lt < 2 ^ 31 by omega)]
  refine ⟨i4, nm_e ⟨ml_60, ml_m6i (by omega), nm_e ⟨i4, i4, ml_changed t7 (fun A B C => ?_)⟩⟩⟩
  have cl := ml_cs_le a1 a4 (a9 t) (a11 t) 6 (a7 (lt % 6)) 0
  rw [show (2 : Nat) ^ 6 = 64 from rfl] at cl
  have e1 : nI lt + 1 = nI (lt + 1) := nI_1 lt
  have h10 : ∀ t', t' < 4 → ml_T a1 (ml_U fc a6) 6 (upd a10 t (-1) t') := by
    intro t' ht'
    by_cases e : t' = t
    · rw [e, pk_us]; exact ml_T_m1 6
    · rw [pk_un e]; exact hT10 t' ht'
  have h7 : ∀ k, k < 6 → ml_T a1 (ml_U fc a6) 6 (upd a7 ((lt + 1) % 6) (a7 (lt % 6)) k) := by
    intro k hk
    by_cases e : k = (lt + 1) % 6
    · rw [e, pk_us]; exact t7
    · rw [pk_un e]; exact hT7 k hk
  refine pk_eq (ml_cs a1 a4 (a9 t) (a11 t) 6 (a7 (lt % 6)) 0) 0 (fun y => ?_) (fun y => ⟨i4, nm_e (H1 z y A B C)⟩)
  refine ⟨i4, nm_e (nm_r e1 ⟨ml_60, ml_m6i (by omega), nm_r (e' := upd a7 ((lt + 1) % 6) (a7 (lt % 6))) (by rw [ml_m6c (by omega), ml_T_sh t7]) ?_⟩)⟩
  refine pk_le 36 fc (fun h36 => ml_cfin ht hl hW hF h36 h7 h10 (fun k hk => pk_un hk) (fun fc' g' c b2 b3 s4 a7' A' hd => H2 z y fc' g' c b2 b3 s4 a5 a6 a7' A' B C hd)) (fun _ => ?_) rfl rfl (by decide) (by have := hF.1; omega)
  refine ml_collect (R := [(upd a7 ((lt + 1) % 6) (a7 (lt % 6))) ((lt + 2) % 6), (upd a7 ((lt + 1) % 6) (a7 (lt % 6))) ((lt + 3) % 6), (upd a7 ((lt + 1) % 6) (a7 (lt % 6))) ((lt + 4) % 6), (upd a7 ((lt + 1) % 6) (a7 (lt % 6))) ((lt + 5) % 6), (upd a7 ((lt + 1) % 6) (a7 (lt % 6))) ((lt + 6) % 6), b1, b2]) (Nat.le_refl 7) h7 (fun k hk => ml_roots ?_ k hk) h10 (fun t' ht' => ?_) (fun fc1 g1 M a6' A1 B1 C1 f36 fF fT7 fT10 => ml_cfin ht hl hW fF f36 fT7 fT10 (fun k hk => pk_un hk) (fun fc' g' c b2 b3 s4 a7' A' hd => H2 z y fc' g' c b2 b3 s4 M a6' a7' A' B1 C1 hd))
  · rw [pk_us, pk_un (by omega), show (lt + 6) % 6 = lt % 6 by omega]
  · by_cases e : t' = t
    · rw [e, pk_us]; exact Or.inl rfl
    · rw [pk_un e]
      have e6 : upd a7 ((lt + 1) % 6) (a7 (lt % 6)) ((lt + 6) % 6) = a7 (lt % 6) := by
        rw [pk_un (by omega), show (lt + 6) % 6 = lt % 6 by omega]
      rcases hR t' ht' e with q | q | q | q
      · exact Or.inl q
      · refine Or.inr ?_
        rw [q, e6]
        simp only [List.mem_cons, true_or, or_true]
      · refine Or.inr ?_
        rw [q]
        simp only [List.mem_cons, true_or, or_true]
      · refine Or.inr ?_
        rw [q]
        simp only [List.mem_cons, true_or, or_true]
end
end
section
/-! the law's own loop: its invariant, and what stands behind each turn -/
def ml_bt (x : Int32) (i : Nat) : Bool := x.toBitVec.getLsbD i
theorem ml_bt_or (x y : Int32) (i : Nat) : ml_bt (x ||| y) i = (ml_bt x i || ml_bt y i) := by unfold ml_bt; rw [Int32.toBitVec_or, BitVec.getLsbD_or]
theorem ml_bt_and (x y : Int32) (i : Nat) : ml_bt (x &&& y) i = (ml_bt x i && ml_bt y i) := by unfold ml_bt; rw [Int32.toBitVec_and, BitVec.getLsbD_and]
theorem ml_bt_1 : ∀ t, t < 2 → ml_bt ((1 : Int32) <<< (nI t &&& 31)) t = true := by decide +kernel
theorem ml_bt_c : ∀ t, t < 2 → ∀ i, i < 2 → i ≠ t → ml_bt (((1 : Int32) <<< (nI t &&& 31)) ^^^ (-1)) i = true := by decide +kernel
theorem ml_bt_s : ∀ t, t < 2 → ((nI t &&& 31).toBitVec.smod 32).toNat = t := by decide +kernel
theorem ml_bt_shr {x : Int32} {t : Nat} (ht : t < 2) (h : ml_bt x t = true) : ¬ (x >>> (nI t &&& 31)) &&& 1 = 0 := by
  intro z
  have e : ml_bt ((x >>> (nI t &&& 31)) &&& 1) 0 = true := by
    rw [ml_bt_and]
    have q : ml_bt (x >>> (nI t &&& 31)) 0 = true := by
      unfold ml_bt
      rw [Int32.toBitVec_shiftRight]
      show (x.toBitVec.sshiftRight ((nI t &&& 31).toBitVec.smod 32).toNat).getLsbD 0 = true
      rw [ml_bt_s t ht, BitVec.getLsbD_sshiftRight]
      have : t + 0 < 32 := by omega
      simp only [this, if_true]
      exact h
    rw [q]
    decide
  rw [z] at e
  exact absurd e (by decide)
/-- heap, transactions, sums -/
def ml_H (lt fc : Nat) (a1 a4 a6 a7 a10 a12 a13 a15 : Nat → Int32) : Prop :=
  ml_F fc a6 ∧ (∀ k, k < 6 → ml_T a1 (ml_U fc a6) 6 (a7 k)) ∧ (∀ t, t < 4 → ml_T a1 (ml_U fc a6) 6 (a10 t)) ∧ (∀ j, j < 512 → ∃ s, s ≤ lt ∧ a4 j = nI s) ∧ ml_W a12 a13 a15
def ml_O (x7 : Int32) (a8 a10 a11 : Nat → Int32) : Prop := (∀ t, t < 2 → ¬ a8 t = 0 → ¬ a11 t = 0 → ml_bt x7 t = true) ∧ a8 2 = 0 ∧ a8 3 = 0 ∧ a10 2 = -1 ∧ a10 3 = -1
def ml_S (lt : Nat) (x2 x3 x4 x5 : Int32) (a1 a2 a3 a7 : Nat → Int32) : Prop :=
  x2 = ml_sum a1 a2 a3 (a7 (lt % 6)) ∧ (1 ≤ lt → x3 = ml_sum a1 a2 a3 (a7 ((lt - 1) % 6))) ∧ (2 ≤ lt → x4 = ml_sum a1 a2 a3 (a7 ((lt - 2) % 6))) ∧ (3 ≤ lt → x5 = ml_sum a1 a2 a3 (a7 ((lt - 3) % 6)))
theorem ml_S_next {t lt fc' : Nat} {x2 x3 x4 x5 : Int32} {a1 a2 a3 a4 a7 a10 a12 a13 a14 a15 c b2 b3 s4 a6' a7' : Nat → Int32} (h : ml_S lt x2 x3 x4 x5 a1 a2 a3 a7) (hd : ml_done a1 a2 a3 a4 a7 a10 a12 a13 a14 a15 t lt fc' c b2 b3 s4 a6' a7') : ml_S (lt + 1) (ml_sum c b2 b3 (a7' ((lt + 1) % 6))) x2 x3 x4 c b2 b3 a7' := by
  obtain ⟨_, _, _, d4, _, _⟩ := hd
  obtain ⟨h1, h2, h3, h4⟩ := h
  have g : ∀ k, k < 6 → k ≠ (lt + 1) % 6 → ml_sum c b2 b3 (a7' k) = ml_sum a1 a2 a3 (a7 k) := by
    intro k hk hn
    rw [(d4 k hk hn).1, (d4 k hk hn).2]
  refine ⟨rfl, fun _ => ?_, fun z => ?_, fun z => ?_⟩
  · rw [h1, g _ (by omega) (by omega), Nat.add_sub_cancel]
  · rw [h2 (by omega), g _ (by omega) (by omega), show lt + 1 - 2 = lt - 1 by omega]
  · rw [h3 (by omega), g _ (by omega) (by omega), show lt + 1 - 3 = lt - 2 by omega]
theorem ml_H_done {t lt fc fc' : Nat} {a1 a2 a3 a4 a6 a7 a10 a12 a13 a14 a15 c b2 b3 s4 a6' a7' : Nat → Int32} (h : ml_H lt fc a1 a4 a6 a7 a10 a12 a13 a15) (hd : ml_done a1 a2 a3 a4 a7 a10 a12 a13 a14 a15 t lt fc' c b2 b3 s4 a6' a7') : ml_H (lt + 1) fc' c s4 a6' a7' (upd a10 t (-1)) a12 a13 a15 := by
  obtain ⟨d1, d2, d3, _, d5, _⟩ := hd
  obtain ⟨_, _, _, h4, h5⟩ := h
  refine ⟨d1, d2, d3, fun j hj => ?_, h5⟩
  rcases d5 j with y | y
  · obtain ⟨s, hs, e⟩ := h4 j hj
    exact ⟨s, by omega, y.trans e⟩
  · exact ⟨lt + 1, Nat.le_refl _, y⟩
theorem ml_H_drop {t lt fc : Nat} {a1 a4 a6 a7 a10 a12 a13 a15 : Nat → Int32} (h : ml_H lt fc a1 a4 a6 a7 a10 a12 a13 a15) : ml_H lt fc a1 a4 a6 a7 (upd a10 t (-1)) a12 a13 a15 := by
  obtain ⟨h1, h2, h3, h4, h5⟩ := h
  refine ⟨h1, h2, fun t' ht' => ?_, h4, h5⟩
  by_cases e : t' = t
  · rw [e, pk_us]; exact ml_T_m1 6
  · rw [pk_un e]; exact h3 t' ht'
theorem ml_H_begin {t lt fc : Nat} {a1 a4 a6 a7 a10 a12 a13 a15 : Nat → Int32} (h : ml_H lt fc a1 a4 a6 a7 a10 a12 a13 a15) : ml_H lt fc a1 a4 a6 a7 (upd a10 t (a7 (lt % 6))) (upd a12 t 0) a13 a15 := by
  obtain ⟨h1, h2, h3, h4, h5, h6, h7⟩ := h
  refine ⟨h1, h2, fun t' ht' => ?_, h4, fun t' ht' => ?_, h6, h7⟩
  · by_cases e : t' = t
    · rw [e, pk_us]; exact h2 _ (by omega)
    · rw [pk_un e]; exact h3 t' ht'
  · by_cases e : t' = t
    · rw [e, pk_us]; exact ⟨0, by omega, rfl⟩
    · rw [pk_un e]; exact h5 t' ht'
theorem ml_O_end {x7 : Int32} {a8 a10 a11 : Nat → Int32} {t : Nat} (h : ml_O x7 a8 a10 a11) : ml_O x7 (upd a8 t 0) (upd a10 t (-1)) a11 := by
  obtain ⟨h1, h2, h3, h4, h5⟩ := h
  refine ⟨fun t' ht' ho hr => ?_, ?_, ?_, ?_, ?_⟩
  · by_cases e : t' = t
    · rw [e, pk_us] at ho
      exact absurd rfl ho
    · rw [pk_un e] at ho
      exact h1 t' ht' ho hr
  · by_cases e : 2 = t
    · rw [e, pk_us]
    · rw [pk_un e]; exact h2
  · by_cases e : 3 = t
    · rw [e, pk_us]
    · rw [pk_un e]; exact h3
  · by_cases e : 2 = t
    · rw [e, pk_us]
    · rw [pk_un e]; exact h4
  · by_cases e : 3 = t
    · rw [e, pk_us]
    · rw [pk_un e]; exact h5
theorem ml_O_begin {x7 r : Int32} {a8 a10 a11 : Nat → Int32} {t : Nat} (ht : t < 2) (h : ml_O x7 a8 a10 a11) : ml_O (x7 &&& (((1 : Int32) <<< (nI t &&& 31)) ^^^ (-1))) (upd a8 t 1) (upd a10 t r) (upd a11 t 0) := by
  obtain ⟨h1, h2, h3, h4, h5⟩ := h
  refine ⟨fun t' ht' ho hr => ?_, ?_, ?_, ?_, ?_⟩
  · by_cases e : t' = t
    · rw [e, pk_us] at hr
      exact absurd rfl hr
    · rw [pk_un e] at ho hr
      rw [ml_bt_and, h1 t' ht' ho hr, ml_bt_c t ht t' ht' e]
      rfl
  · rw [pk_un (by omega)]; exact h2
  · rw [pk_un (by omega)]; exact h3
  · rw [pk_un (by omega)]; exact h4
  · rw [pk_un (by omega)]; exact h5
theorem ml_O_read {x7 : Int32} {a8 a10 a11 a11' : Nat → Int32} {t : Nat} (ht : t < 2) (hn : ∀ j, j ≠ t → a11' j = a11 j) (h : ml_O x7 a8 a10 a11) : ml_O (x7 ||| ((1 : Int32) <<< (nI t &&& 31))) a8 a10 a11' := by
  obtain ⟨h1, h2, h3, h4, h5⟩ := h
  refine ⟨fun t' ht' ho hr => ?_, h2, h3, h4, h5⟩
  rw [ml_bt_or]
  by_cases e : t' = t
  · rw [e, ml_bt_1 t ht, Bool.or_true]
  · rw [hn t' e] at hr
    rw [h1 t' ht' ho hr]
    rfl
abbrev ml_JT : Type := Int32 → Int32 → Int32 → Int32 → Int32 → Int32 → Int32 → Int32 → Int32 → Int32 → (Nat → Int32) → (Nat → Int32) → (Nat → Int32) → (Nat → Int32) → (Nat → Int32) → (Nat → Int32) → (Nat → Int32) → (Nat → Int32) → (Nat → Int32) → (Nat → Int32) → (Nat → Int32) → (Nat → Int32) → (Nat → Int32) → (Nat → Int32) → (Nat → Int32) → (Nat → Int32) → (Nat → Int32) → (Nat → Int32) → Prop
/-- the law goes on from every state that meets the invariant -/
def ml_KK (J : ml_JT) (lt : Nat) (x8 : Int32) : Prop := ∀ (lt' fc : Nat) (x2 x3 x4 x5 x7 g : Int32) (a1 a2 a3 a4 a5 a6 a7 a8 a9 a10 a11 a12 a13 a14 a15 a16 a17 a18 : Nat → Int32), lt' ≤ lt + 1 → ml_H lt' fc a1 a4 a6 a7 a10 a12 a13 a15 → ml_O x7 a8 a10 a11 → ml_S lt' x2 x3 x4 x5 a1 a2 a3 a7 → J x2 x3 x4 x5 (nI lt') x7 (x8 + 4) (nI fc) (nI lt') g a1 a2 a3 a4 a5 a6 a7 a8 a9 a10 a11 a12 a13 a14 a15 a16 a17 a18
theorem ml_subk {lt k : Nat} (h : k ≤ lt) : nI lt - nI k = nI (lt - k) := pk_sub h
section
variable {f l g : Int32} {a1 a2 a3 a4 a5 a6 a7 a8 a9 a10 a11 a12 a13 a14 a15 a16 a17 a18 : Nat → Int32}
variable {post : Int32 → Prop} {L : Nat} {xs : Nat → Int32} {J : ml_JT} {x2 x3 x4 x5 x7 x8 x12 : Int32} {kc ks lt fc : Nat}
theorem ml_latest {p : Int32 → Prop} (H : p l) : wpX_latest p (f, l, g, a1, a2, a3, a4, a5, a6, a7, a8, a9, a10, a11, a12, a13, a14, a15, a16, a17, a18) := H
theorem ml_485 {Q : Nat → Prop} (hl : lt < 2 ^ 30) (hT : ∀ k, k < 6 → ml_T a1 Q 6 (a7 k)) (hS : ml_S lt x2 x3 x4 x5 a1 a2 a3 a7) (H : J x2 x3 x4 x5 (nI lt) x7 (x8 + 4) f (nI lt) g a1 a2 a3 a4 a5 a6 a7 a8 a9 a10 a11 a12 a13 a14 a15 a16 a17 a18) : wL_law_485 post L xs J x2 x3 x4 x5 (nI lt) x7 x8 kc ks f (nI lt) g a1 a2 a3 a4 a5 a6 a7 a8 a9 a10 a11 a12 a13 a14 a15 a16 a17 a18 := by
  unfold wL_law_485
  refine pk_le lt 2 (fun _ => nm_e H) (fun z => ?_)
  rw [show nI lt - 3 = nI (lt - 3) from ml_subk (k := 3) (by omega)]
  exact ml_sumw (by omega) (by omega) hl (hT _ (by omega)) (br_t (hS.2.2.2 (by omega)).symm (nm_e H))
theorem ml_466 {Q : Nat → Prop} (hl : lt < 2 ^ 30) (hT : ∀ k, k < 6 → ml_T a1 Q 6 (a7 k)) (hS : ml_S lt x2 x3 x4 x5 a1 a2 a3 a7) (H : J x2 x3 x4 x5 (nI lt) x7 (x8 + 4) f (nI lt) g a1 a2 a3 a4 a5 a6 a7 a8 a9 a10 a11 a12 a13 a14 a15 a16 a17 a18) : wL_law_466 post L xs J x2 x3 x4 x5 (nI lt) x7 x8 kc ks f (nI lt) g a1 a2 a3 a4 a5 a6 a7 a8 a9 a10 a11 a12 a13 a14 a15 a16 a17 a18 := by
  unfold wL_law_466
  refine pk_le lt 1 (fun _ => ml_485 hl hT hS H) (fun z => ?_)
  rw [show nI lt - 2 = nI (lt - 2) from ml_subk (k := 2) (by omega)]
  exact ml_sumw (by omega) (by omega) hl (hT _ (by omega)) (br_t (hS.2.2.1 (by omega)).symm (ml_485 hl hT hS H))
theorem ml_428 {Q : Nat → Prop} (hl : lt < 2 ^ 30) (hT : ∀ k, k < 6 → ml_T a1 Q 6 (a7 k)) (hS : ml_S lt x2 x3 x4 x5 a1 a2 a3 a7) (H : J x2 x3 x4 x5 (nI lt) x7 (x8 + 4) f (nI lt) g a1 a2 a3 a4 a5 a6 a7 a8 a9 a10 a11 a12 a13 a14 a15 a16 a17 a18) : wL_law_428 post L xs J x2 x3 x4 x5 (nI lt) x7 x8 kc ks f (nI lt) g a1 a2 a3 a4 a5 a6 a7 a8 a9 a10 a11 a12 a13 a14 a15 a16 a17 a18 := by
  unfold wL_law_428
  refine ml_latest (br_t rfl (ml_sumw (by omega) (by omega) hl (hT _ (by omega)) (br_t hS.1.symm (pk_le lt 0 (fun _ => ml_466 hl hT hS H) (fun z => ?_)))))
  rw [show nI lt - 1 = nI (lt - 1) from ml_subk (k := 1) (by omega)]
  exact ml_sumw (by omega) (by omega) hl (hT _ (by omega)) (br_t (hS.2.1 (by omega)).symm (ml_466 hl hT hS H))
/-- a turn without a new state -/
theorem ml_next0 (hx : x12 < 0) (hl : lt < 2 ^ 30) (hH : ml_H lt fc a1 a4 a6 a7 a10 a12 a13 a15) (hO : ml_O x7 a8 a10 a11) (hS : ml_S lt x2 x3 x4 x5 a1 a2 a3 a7) (hK : ml_KK J lt x8) : wL_law_392 post L xs J x2 x3 x4 x5 (nI lt) x7 x8 x12 kc ks (nI fc) (nI lt) g a1 a2 a3 a4 a5 a6 a7 a8 a9 a10 a11 a12 a13 a14 a15 a16 a17 a18 := by
  unfold wL_law_392
  exact br_t hx (ml_428 hl hH.2.1 hS (hK lt fc x2 x3 x4 x5 x7 g _ _ _ _ _ _ _ _ _ _ _ _ _ _ _ _ _ _ (by omega) hH hO hS))
/-- a turn with a new state -/
theorem ml_next1 (hl : lt + 1 < 2 ^ 30) (hH : ml_H (lt + 1) fc a1 a4 a6 a7 a10 a12 a13 a15) (hO : ml_O x7 a8 a10 a11) (hS : ml_S (lt + 1) (ml_sum a1 a2 a3 (a7 ((lt + 1) % 6))) x2 x3 x4 a1 a2 a3 a7) (hK : ml_KK J lt x8) : wL_law_392 post L xs J x2 x3 x4 x5 (nI lt) x7 x8 (nI (lt + 1)) kc ks (nI fc) (nI (lt + 1)) g a1 a2 a3 a4 a5 a6 a7 a8 a9 a10 a11 a12 a13 a14 a15 a16 a17 a18 := by
  unfold wL_law_392
  exact br_f (nI_pos (by omega)) (br_t (nI_1 lt).symm (ml_sumw (by omega) (by omega) hl (hH.2.1 _ (by omega)) (ml_428 hl hH.2.1 hS (hK (lt + 1) fc _ x2 x3 x4 x7 g _ _ _ _ _ _ _ _ _ _ _ _ _ _ _ _ _ _ (by omega) hH hO hS))))
theorem ml_124 {t : Nat} (ht : t < 2) (hl : lt < 2 ^ 30) (hH : ml_H lt fc a1 a4 a6 a7 a10 a12 a13 a15) (hO : ml_O x7 a8 a10 a11) (hS : ml_S lt x2 x3 x4 x5 a1 a2 a3 a7) (hK : ml_KK J lt x8) : wL_law_124 post L xs J x2 x3 x4 x5 (nI lt) x7 x8 (nI t) (-1) kc ks (nI fc) (nI lt) g a1 a2 a3 a4 a5 a6 a7 a8 a9 a10 a11 a12 a13 a14 a15 a16 a17 a18 := by
  unfold wL_law_124
  refine ml_begin (by omega) hl (hH.2.1 _ (by omega)) (fun _ => br_t (by decide) (ml_next0 (by decide) hl hH hO hS hK)) (fun _ => br_f (nI_pos (by omega)) (nm_e (ml_next0 (by decide) hl (ml_H_begin hH) (ml_O_begin ht hO) hS hK)))
theorem ml_182 {t : Nat} (ht : t < 2) (hl : lt + 1 < 2 ^ 30) (hH : ml_H lt fc a1 a4 a6 a7 a10 a12 a13 a15) (hO : ml_O x7 a8 a10 a11) (hS : ml_S lt x2 x3 x4 x5 a1 a2 a3 a7) (hK : ml_KK J lt x8) : wL_law_182 post L xs J x2 x3 x4 x5 (nI lt) x7 x8 (nI t) kc ks (nI fc) (nI lt) g a1 a2 a3 a4 a5 a6 a7 a8 a9 a10 a11 a12 a13 a14 a15 a16 a17 a18 := by
  unfold wL_law_182
  refine ml_commit (b1 := a10 (1 - t)) (b2 := -1) (by omega) hl hH.1 hH.2.1 hH.2.2.1 hH.2.2.2.2 (fun t' ht' hne => ?_) (fun _ => br_f (by decide) (ml_next0 (by decide) (by omega) hH hO hS hK)) (fun ho hc A B C => br_t rfl (br_f (ml_bt_shr ht (hO.1 t ht ho (fun z => hc ?_))) (ml_next0 (by decide) (by omega) (ml_H_drop hH) (ml_O_end hO) hS hK))) (fun _ _ fc' g' c b2 b3 s4 M a6' a7' A B C hd => br_f ?_ (ml_next1 hl (ml_H_done hH hd) (ml_O_end hO) (ml_S_next hS hd) hK))
  · have : t' = 1 - t ∨ t' = 2 ∨ t' = 3 := by omega
    rcases this with e | e | e
    · rw [e]; exact Or.inr (Or.inr (Or.inl rfl))
    · rw [e]; exact Or.inl hO.2.2.2.1
    · rw [e]; exact Or.inl hO.2.2.2.2
  · rw [z]
    exact ml_cs_set0 _ _ _ _
  · intro z
    have := nI_pos (n := lt + 1) (by omega)
    rw [z] at this
    exact this (by decide)
end
end
section
/-! case 7: two transactions over one key; one commits, the other must not -/
def ml_X (lt key : Nat) (v : Int32) (a7 a8 a9 a10 a11 a12 a13 a14 a15 : Nat → Int32) : Prop := ∀ t, (t = 2 ∨ t = 3) →
  ¬ a8 t = 0 ∧ a9 t = nI lt ∧ a10 t = a7 (lt % 6) ∧ a11 t = (1 : Int32) <<< (nI key &&& 31) ∧ a12 t = 1 ∧ a13 (6 * t) = nI key ∧ a14 (6 * t) = (if t = 2 then v else -v) ∧ a15 (6 * t) = 1
theorem ml_or0 : ∀ key, key < 32 → (0 : Int32) ||| ((1 : Int32) <<< (nI key &&& 31)) = (1 : Int32) <<< (nI key &&& 31) := by decide +kernel
theorem ml_u2 (a : Nat → Int32) (x y : Int32) : upd (upd a 2 x) 3 y 2 = x := by rw [pk_un (by decide), pk_us]
theorem ml_u3 (a : Nat → Int32) (x y : Int32) : upd (upd a 2 x) 3 y 3 = y := pk_us
theorem ml_w2 (a : Nat → Int32) (x y : Int32) : upd (upd a (6 * 2) x) (6 * 3) y (6 * 2) = x := by rw [pk_un (by decide), pk_us]
theorem ml_w3 (a : Nat → Int32) (x y : Int32) : upd (upd a (6 * 2) x) (6 * 3) y (6 * 3) = y := pk_us
theorem ml_X_mk {lt key : Nat} {v : Int32} (hk : key < 32) (a7 a8 a9 a10 c11 c12 a13 a14 a15 : Nat → Int32) (h2 : c11 2 = 0) (h3 : c11 3 = 0) :
    ml_X lt key v a7 (upd (upd a8 2 1) 3 1) (upd (upd a9 2 (nI lt)) 3 (nI lt)) (upd (upd a10 2 (a7 (lt % 6))) 3 (a7 (lt % 6)))
      (upd (upd c11 2 (c11 2 ||| ((1 : Int32) <<< (nI key &&& 31)))) 3 (upd c11 2 (c11 2 ||| ((1 : Int32) <<< (nI key &&& 31))) 3 ||| ((1 : Int32) <<< (nI key &&& 31))))
      (upd (upd c12 2 1) 3 1) (upd (upd a13 (6 * 2) (nI key)) (6 * 3) (nI key)) (upd (upd a14 (6 * 2) v) (6 * 3) (-v)) (upd (upd a15 (6 * 2) 1) (6 * 3) 1) := by
  intro t ht
  rcases ht with rfl | rfl
  · refine ⟨?_, ml_u2 _ _ _, ml_u2 _ _ _, ?_, ml_u2 _ _ _, ml_w2 _ _ _, ml_w2 _ _ _, ml_w2 _ _ _⟩
    · rw [ml_u2]; decide
    · rw [ml_u2, h2]
      exact ml_or0 key hk
  · refine ⟨?_, ml_u3 _ _ _, ml_u3 _ _ _, ?_, ml_u3 _ _ _, ml_w3 _ _ _, ml_w3 _ _ _, ml_w3 _ _ _⟩
    · rw [ml_u3]; decide
    · rw [ml_u3, pk_un (by decide), h3]
      exact ml_or0 key hk
theorem ml_H_w0 {t key lt fc : Nat} {a1 a4 a6 a7 a10 a12 a13 a15 : Nat → Int32} (hk : key < 32) (h : ml_H lt fc a1 a4 a6 a7 a10 a12 a13 a15) : ml_H lt fc a1 a4 a6 a7 a10 (upd a12 t 1) (upd a13 (6 * t) (nI key)) (upd a15 (6 * t) 1) := by
  obtain ⟨h1, h2, h3, h4, h5, h6, h7⟩ := h
  refine ⟨h1, h2, h3, h4, fun t' ht' => ?_, fun j hj => ?_, fun j hj => ?_⟩
  · by_cases e : t' = t
    · rw [e, pk_us]; exact ⟨1, by omega, rfl⟩
    · rw [pk_un e]; exact h5 t' ht'
  · by_cases e : j = 6 * t
    · rw [e, pk_us]; exact ⟨key, hk, rfl⟩
    · rw [pk_un e]; exact h6 j hj
  · by_cases e : j = 6 * t
    · rw [e, pk_us]; exact Or.inr rfl
    · rw [pk_un e]; exact h7 j hj
theorem ml_O_x {x7 : Int32} {a8 a10 a11 : Nat → Int32} {t : Nat} (ht : t = 2 ∨ t = 3) (h : ∀ t, t < 2 → ¬ a8 t = 0 → ¬ a11 t = 0 → ml_bt x7 t = true) : ml_O x7 (upd (upd a8 t 0) (5 - t) 0) (upd (upd a10 t (-1)) (5 - t) (-1)) a11 := by
  have q : ∀ (a : Nat → Int32) (x : Int32), upd (upd a t x) (5 - t) x 2 = x ∧ upd (upd a t x) (5 - t) x 3 = x := by
    intro a x
    rcases ht with rfl | rfl
    · exact ⟨by rw [pk_un (by decide), pk_us], pk_us⟩
    · exact ⟨pk_us, by rw [pk_un (by decide), pk_us]⟩
  refine ⟨fun t' ht' ho hr => ?_, (q _ _).1, (q _ _).2, (q _ _).1, (q _ _).2⟩
  rw [pk_un (by omega), pk_un (by omega)] at ho
  exact h t' ht' ho hr
theorem ml_at_nw {c a2 a3 a4 : Nat → Int32} {lv r v : Int32} {key : Nat} (h : ml_nw c a2 a3 a4 lv r key v 1) : ml_at c a2 a3 r key = v := by
  obtain ⟨_, j, hj, e, e2, e3⟩ := h
  have z : ml_has c a3 r key = 1 := by
    unfold ml_has
    rw [e, if_neg (nI_pos (by omega)), nI_clamp (by omega), e3]
    rfl
  unfold ml_at
  rw [z, if_neg (by decide), e, nI_clamp (by omega)]
  exact e2
section
variable {f l g : Int32} {a1 a2 a3 a4 a5 a6 a7 a8 a9 a10 a11 a12 a13 a14 a15 a16 a17 a18 : Nat → Int32}
theorem ml_com1 {p : Int32 → St1 → Prop} {t key lt fc : Nat} {v : Int32} (ht : t = 2 ∨ t = 3) (hl : lt + 1 < 2 ^ 30) (hH : ml_H lt fc a1 a4 a6 a7 a10 a12 a13 a15) (hX : ml_X lt key v a7 a8 a9 a10 a11 a12 a13 a14 a15)
    (H : ∀ fc' g' c b2 b3 s4 M a6' a7' A B C, ml_done a1 a2 a3 a4 a7 a10 a12 a13 a14 a15 t lt fc' c b2 b3 s4 a6' a7' →
      p (nI (lt + 1)) (nI fc', nI (lt + 1), g', c, b2, b3, s4, M, a6', a7', upd a8 t 0, a9, upd a10 t (-1), a11, a12, a13, a14, a15, A, B, C)) : wpX_commit p (nI fc, nI lt, g, a1, a2, a3, a4, a5, a6, a7, a8, a9, a10, a11, a12, a13, a14, a15, a16, a17, a18) (nI t) := by
  refine ml_commit (b1 := a10 0) (b2 := a10 1) (by omega) hl hH.1 hH.2.1 hH.2.2.1 hH.2.2.2.2 (fun t' ht' hne => ?_) (fun z => absurd z (hX t ht).1) (fun _ hc => absurd ?_ hc) (fun _ _ => H)
  · have : t' = 0 ∨ t' = 1 ∨ (t' = 2 ∨ t' = 3) := by omega
    rcases this with e | e | e
    · rw [e]; exact Or.inr (Or.inr (Or.inl rfl))
    · rw [e]; exact Or.inr (Or.inr (Or.inr rfl))
    · exact Or.inr (Or.inl (hX t' e).2.2.1)
  · refine ml_cs_old (hH.2.1 _ (by omega)) (fun j hj => ?_)
    obtain ⟨s, hs, e⟩ := hH.2.2.2.1 j hj
    rw [e, (hX t ht).2.1]
    exact nI_le hs (by omega)
theorem ml_com2 {p : Int32 → St1 → Prop} {t key lt fc b : Nat} (ht : t = 2 ∨ t = 3) (hl : lt + 1 < 2 ^ 30) (hk : key < 32) (hH : ml_H lt fc a1 a4 a6 a7 a10 a12 a13 a15) (ho : ¬ a8 t = 0) (h9 : a9 t = nI b) (hb : b < lt) (h11 : a11 t = (1 : Int32) <<< (nI key &&& 31)) (hp : ml_path a1 a4 (nI lt) key 6 (a7 (lt % 6))) (h10 : a10 (5 - t) = -1)
    (H : ∀ A B C, p (-5) (nI fc, nI lt, 0, a1, a2, a3, a4, a5, a6, a7, upd a8 t 0, a9, upd a10 t (-1), a11, a12, a13, a14, a15, A, B, C)) : wpX_commit p (nI fc, nI lt, g, a1, a2, a3, a4, a5, a6, a7, a8, a9, a10, a11, a12, a13, a14, a15, a16, a17, a18) (nI t) := by
  have hc : ¬ ml_cs a1 a4 (a9 t) (a11 t) 6 (a7 (lt % 6)) 0 = 0 := by
    have q := ml_cs_path (b := nI b) hk (nI_ge hb (by omega)) 5 (by omega) _ hp
    rw [show key / 2 ^ 5 * 2 ^ 5 = 0 by omega] at q
    rw [h9, h11]
    intro z
    rw [z] at q
    exact absurd q (by decide)
  refine ml_commit (b1 := a10 0) (b2 := a10 1) (by omega) hl hH.1 hH.2.1 hH.2.2.1 hH.2.2.2.2 (fun t' ht' hne => ?_) (fun z => absurd z ho) (fun _ _ => H) (fun _ z => absurd z hc)
  have : t' = 0 ∨ t' = 1 ∨ t' = 5 - t := by omega
  rcases this with e | e | e
  · rw [e]; exact Or.inr (Or.inr (Or.inl rfl))
  · rw [e]; exact Or.inr (Or.inr (Or.inr rfl))
  · rw [e]; exact Or.inl h10
end
end
section
/-! one turn of the law, the constructor, the top -/
theorem ml_c4 {L p : Nat} (hL : L ≤ 260) (hp : p ≤ 260) : Int32.ofNat L - 4 < nI p ↔ L < p + 4 := by
  show nI L - nI 4 < nI p ↔ _
  rw [Int32.lt_iff_toInt_lt, pk_sub_toInt (by omega) (by decide), nI_toInt (by omega)]
  omega
theorem ml_k16 : ∀ key, key < 32 → nI key ||| 16 = nI (key % 16 + 16) ∧ nI key &&& 15 = nI (key % 16) := by decide +kernel
theorem ml_5m : ∀ q, q < 2 → (5 : Int32) - nI (2 + q) = nI (5 - (2 + q)) ∧ (2 : Int32) + nI q = nI (2 + q) := by decide +kernel
section
variable {f l g : Int32} {a1 a2 a3 a4 a5 a6 a7 a8 a9 a10 a11 a12 a13 a14 a15 a16 a17 a18 : Nat → Int32}
variable {L : Nat} {xs : Nat → Int32} {x2 x3 x4 x5 x7 : Int32} {kc ks lt fc : Nat}
theorem ml_step {n p : Nat} (hL : L ≤ 260) (hp : p ≤ L) (hlp : lt ≤ p) (hH : ml_H lt fc a1 a4 a6 a7 a10 a12 a13 a15) (hO : ml_O x7 a8 a10 a11) (hS : ml_S lt x2 x3 x4 x5 a1 a2 a3 a7)
    (hK : p + 4 ≤ L → ml_KK (wL_law_31 (fun r => r = 1) L xs kc ks n) lt (nI p)) : wL_law_31 (fun r => r = 1) L xs kc ks (n + 1) x2 x3 x4 x5 (nI lt) x7 (nI p) (nI fc) (nI lt) g a1 a2 a3 a4 a5 a6 a7 a8 a9 a10 a11 a12 a13 a14 a15 a16 a17 a18 := by
  have c4 := ml_c4 hL (show p ≤ 260 by omega)
  refine br_c (fun _ => rfl) (fun z => ?_)
  have hp4 : p + 4 ≤ L := by
    rcases Nat.lt_or_ge L (p + 4) with y | y
    · exact absurd (c4.mpr y) z
    · exact y
  have hK := hK hp4
  have hl : lt + 1 < 2 ^ 30 := by omega
  have hl0 : lt < 2 ^ 30 := by omega
  have hW := hH.2.2.2.2
  obtain ⟨t, ht, et⟩ := pk_andE (xs (p + 1)) (m := 1) 1 (by decide)
  obtain ⟨key, hk, ek⟩ := pk_andE (xs (p + 2)) (m := 31) 5 (by decide)
  obtain ⟨k, hk16, ekk⟩ := pk_andE (xs p) (m := 15) 4 (by decide)
  obtain ⟨q, hq, eq⟩ := pk_andE (xs (p + 3)) (m := 1) 1 (by decide)
  have ht : t < 2 := ht
  have hk : key < 32 := hk
  have hk16 : k < 16 := hk16
  have hq : q < 2 := hq
  have d1 : nI p + 1 = nI (p + 1) := nI_1 p
  have d2 : nI p + 2 = nI (p + 2) := nI_add p 2
  have d3 : nI p + 3 = nI (p + 3) := nI_add p 3
  refine ⟨pk_in (p + 1) L (by omega) d1, nm_r (e' := nI t) (by rw [d1, nI_clamp (by omega)]; exact et) ⟨pk_in (p + 2) L (by omega) d2, nm_r (e' := nI key) (by rw [d2, nI_clamp (by omega)]; exact ek) ⟨pk_in (p + 3) L (by omega) d3, nm_r (e' := xs (p + 3)) (by rw [d3, nI_clamp (by omega)]) ⟨vp_in_nI (by omega) (by omega), nm_r (e' := nI k) (by rw [nI_clamp (by omega)]; exact ekk) ?_⟩⟩⟩⟩
  refine br_f (nI_pos (by omega)) (pk_lt 7 k (fun _ => ?_) (fun h7 => pk_eq k 0 (fun _ => ?_) (fun _ => pk_eq k 1 (fun _ => ?_) (fun _ => pk_eq k 2 (fun _ => ?_) (fun _ => pk_eq k 3 (fun _ => ?_) (fun _ => pk_eq k 4 (fun _ => ?_) (fun _ => pk_eq k 5 (fun _ => ?_) (fun _ => pk_eq k 6 (fun _ => ?_) (fun _ => pk_eq k 7 (fun _ => ?_) (fun _ => trivial))))))))))
  · exact ml_write (by omega) hk hW (fun r => ml_next0 (by decide) hl0 hH hO hS hK) (fun r a12' a13' a14' a15' hW' => ml_next0 (by decide) hl0 ⟨hH.1, hH.2.1, hH.2.2.1, hH.2.2.2.1, hW'⟩ hO hS hK)
  · exact ml_124 ht hl0 hH hO hS hK
  · exact ml_124 ht hl0 hH hO hS hK
  · refine ml_read (by omega) hk hW (hH.2.2.1 t (by omega)) (fun _ => br_t (by decide) (ml_next0 (by decide) hl0 hH hO hS hK)) (fun _ r hr _ => br_f ?_ (nm_e (ml_next0 (by decide) hl0 hH (ml_O_read ht (fun j hj => pk_un hj) hO) hS hK)))
    rcases hr with rfl | rfl
    · decide
    · decide
  · exact ml_erase (by omega) hk hW (fun r => ml_next0 (by decide) hl0 hH hO hS hK) (fun r a12' a13' a14' a15' hW' => ml_next0 (by decide) hl0 ⟨hH.1, hH.2.1, hH.2.2.1, hH.2.2.2.1, hW'⟩ hO hS hK)
  · exact ml_182 ht hl hH hO hS hK
  · exact ml_182 ht hl hH hO hS hK
  · refine nm_r (ml_k16 key hk).2 ?_
    rw [(ml_k16 key hk).1]
    exact ml_range (by omega) (by omega) (by omega) hW (hH.2.2.1 t (by omega)) (fun _ => br_t (by decide) (ml_next0 (by decide) hl0 hH hO hS hK)) (fun _ c a11' hc hn => br_f (nI_pos (by omega)) (nm_e (ml_next0 (by decide) hl0 hH (ml_O_read ht hn hO) hS hK)))
  · have H1 := ml_H_begin (t := 3) (ml_H_begin (t := 2) hH)
    have H2 := ml_H_w0 (t := 3) hk (ml_H_w0 (t := 2) hk H1)
    have hX := ml_X_mk (lt := lt) (v := xs (p + 3)) hk a7 a8 a9 a10 (upd (upd a11 2 0) 3 0) (upd (upd a12 2 0) 3 0) a13 a14 a15 (ml_u2 _ _ _) (ml_u3 _ _ _)
    have T7 := hH.2.1 (lt % 6) (by omega)
    refine ml_begin (t := 2) (by omega) hl0 T7 (fun y => absurd hO.2.1 y) (fun _ => ml_latest (br_t rfl (ml_begin (t := 3) (by omega) hl0 T7 (fun y => absurd ?_ y) (fun _ => ml_latest (br_t rfl ?_)))))
    · rw [pk_un (by decide)]; exact hO.2.2.1
    refine ml_read (t := 2) (by omega) hk H1.2.2.2.2 (H1.2.2.1 2 (by omega)) (fun y => absurd y (hX 2 (Or.inl rfl)).1) (fun _ r1 _ e1 => ml_read (t := 3) (by omega) hk H1.2.2.2.2 (H1.2.2.1 3 (by omega)) (fun y => absurd y (hX 3 (Or.inr rfl)).1) (fun _ r2 _ e2 => br_t ?_ (ml_write0 (t := 2) (by omega) hk (hX 2 (Or.inl rfl)).1 (ml_u2 _ _ _) (br_t rfl (ml_write0 (t := 3) (by omega) hk (hX 3 (Or.inr rfl)).1 ?_ (br_t rfl (nm_r (e' := nI (2 + q)) ?_ ?_)))))))
    · rw [e1 (ml_u2 _ _ _), e2 (ml_u3 _ _ _), ml_u2, ml_u3]
    · rw [pk_un (by decide)]; exact ml_u3 _ _ _
    · rw [eq]; exact (ml_5m q hq).2
    · have ta : 2 + q = 2 ∨ 2 + q = 3 := by omega
      have to : 5 - (2 + q) = 2 ∨ 5 - (2 + q) = 3 := by omega
      refine ml_com1 ta hl H2 hX (fun fc' g' c b2 b3 s4 M a6' a7' A B C hd => br_t (nI_1 lt).symm ?_)
      rw [(ml_5m q hq).1]
      obtain ⟨X1, X2, X3, X4, X5, X6, X7, X8⟩ := hX (2 + q) ta
      obtain ⟨Y1, Y2, Y3, Y4, Y5, Y6, Y7, Y8⟩ := hX (5 - (2 + q)) to
      have hn := hd.2.2.2.2.2 X5 key hk X6
      rw [X7, X8] at hn
      have H3 := ml_H_done H2 hd
      refine ml_com2 (b := lt) (key := key) to (by omega) hk H3 (by rw [pk_un (by omega)]; exact Y1) Y2 (by omega) Y4 hn.1 (by rw [show 5 - (5 - (2 + q)) = 2 + q by omega, pk_us]) (fun A' B' C' => br_t rfl (ml_atw (by omega) (by omega) hl hk (H3.2.1 _ (by omega)) ?_))
      have ea := ml_at_nw hn
      have O3 := ml_O_x (x7 := x7) (a8 := upd (upd a8 2 1) 3 1) (a10 := upd (upd a10 2 (a7 (lt % 6))) 3 (a7 (lt % 6))) (a11 := (upd (upd (upd (upd a11 2 0) 3 0) 2 ((upd (upd a11 2 0) 3 0) 2 ||| ((1 : Int32) <<< (nI key &&& 31)))) 3 (upd (upd (upd a11 2 0) 3 0) 2 ((upd (upd a11 2 0) 3 0) 2 ||| ((1 : Int32) <<< (nI key &&& 31))) 3 ||| ((1 : Int32) <<< (nI key &&& 31))))) ta (fun t' ht' ho hr => by
        rw [pk_un (by omega), pk_un (by omega)] at ho
        rw [pk_un (by omega), pk_un (by omega), pk_un (by omega), pk_un (by omega)] at hr
        exact hO.1 t' ht' ho hr)
      refine pk_eq (2 + q) 2 (fun y => br_t ?_ (ml_next1 hl (ml_H_drop H3) O3 (ml_S_next hS hd) hK)) (fun y => br_t ?_ (ml_next1 hl (ml_H_drop H3) O3 (ml_S_next hS hd) hK))
      · rw [ea, if_pos y]
      · rw [ea, if_neg y]
theorem ml_loop (hL : L ≤ 260) : ∀ (n p lt fc : Nat) (x2 x3 x4 x5 x7 g : Int32) (a1 a2 a3 a4 a5 a6 a7 a8 a9 a10 a11 a12 a13 a14 a15 a16 a17 a18 : Nat → Int32), p ≤ L → lt ≤ p → L < p + n → ml_H lt fc a1 a4 a6 a7 a10 a12 a13 a15 → ml_O x7 a8 a10 a11 → ml_S lt x2 x3 x4 x5 a1 a2 a3 a7 →
    wL_law_31 (fun r => r = 1) L xs kc ks n x2 x3 x4 x5 (nI lt) x7 (nI p) (nI fc) (nI lt) g a1 a2 a3 a4 a5 a6 a7 a8 a9 a10 a11 a12 a13 a14 a15 a16 a17 a18 := by
  intro n
  induction n with
  | zero => intro p lt fc x2 x3 x4 x5 x7 g a1 a2 a3 a4 a5 a6 a7 a8 a9 a10 a11 a12 a13 a14 a15 a16 a17 a18 hp _ hn; exact absurd hp (by omega)
  | succ n ih =>
    intro p lt fc x2 x3 x4 x5 x7 g a1 a2 a3 a4 a5 a6 a7 a8 a9 a10 a11 a12 a13 a14 a15 a16 a17 a18 hp hlp hn hH hO hS
    refine ml_step hL hp hlp hH hO hS (fun hp4 => ?_)
    intro lt' fc' y2 y3 y4 y5 y7 g' b1 b2 b3 b4 b5 b6 b7 b8 b9 b10 b11 b12 b13 b14 b15 b16 b17 b18 hl' hH' hO' hS'
    rw [show nI p + 4 = nI (p + 4) from nI_add p 4]
    exact ih (p + 4) lt' fc' y2 y3 y4 y5 y7 g' b1 b2 b3 b4 b5 b6 b7 b8 b9 b10 b11 b12 b13 b14 b15 b16 b17 b18 hp4 (by omega) (by omega) hH' hO' hS'
end
end
section
/-! the constructor and the top -/
section
variable {f l g : Int32} {a1 a2 a3 a4 a5 a6 a7 a8 a9 a10 a11 a12 a13 a14 a15 a16 a17 a18 : Nat → Int32}
variable {mc ms kc ks : Nat}
theorem ml_i207 {post : St1 → Prop} (H : ∀ r10, (∀ t, t < 4 → r10 t = -1) → post (f, l, g, a1, a2, a3, a4, a5, a6, a7, a8, a9, r10, a11, a12, a13, a14, a15, a16, a17, a18)) : ∃ n, wX_init_207 post mc ms kc ks f l g n 0 a1 a2 a3 a4 a5 a6 a7 a8 a9 a10 a11 a12 a13 a14 a15 a16 a17 a18 :=
  pk_loop (fun n i s => wX_init_207 post mc ms kc ks f l g n (nI i) a1 a2 a3 a4 a5 a6 a7 a8 a9 s a11 a12 a13 a14 a15 a16 a17 a18) (fun i s => ∀ j, j < i → s j = -1) 4 0 a10 (by omega) (fun j hj => absurd hj (by omega))
    (fun n s h => pk_le 4 4 (fun _ => H s h) (fun z => absurd z (by omega)))
    (fun n i s hi h hn => pk_le 4 i (fun z => absurd z (by omega)) (fun _ => ⟨vp_in_nI hi (by decide), nm_e (nm_r (nI_1 i) (hn _ (fun j hj => by
      rw [nI_clamp (by omega)]
      by_cases e : j = i
      · rw [e, pk_us]
      · rw [pk_un e]
        exact h j (by omega))))⟩))
theorem ml_i186 {post : St1 → Prop} (H : ∀ r7 r10, (∀ k, k < 6 → r7 k = -1) → (∀ t, t < 4 → r10 t = -1) → post (f, l, g, a1, a2, a3, a4, a5, a6, r7, a8, a9, r10, a11, a12, a13, a14, a15, a16, a17, a18)) : ∃ n, wX_init_186 post mc ms kc ks f l g n 0 a1 a2 a3 a4 a5 a6 a7 a8 a9 a10 a11 a12 a13 a14 a15 a16 a17 a18 :=
  pk_loop (fun n i s => wX_init_186 post mc ms kc ks f l g n (nI i) a1 a2 a3 a4 a5 a6 s a8 a9 a10 a11 a12 a13 a14 a15 a16 a17 a18) (fun i s => ∀ j, j < i → s j = -1) 6 0 a7 (by omega) (fun j hj => absurd hj (by omega))
    (fun n s h => pk_le 6 6 (fun _ => ml_i207 (fun r10 h10 => H s r10 h h10)) (fun z => absurd z (by omega)))
    (fun n i s hi h hn => pk_le 6 i (fun z => absurd z (by omega)) (fun _ => ⟨vp_in_nI hi (by decide), nm_e (nm_r (nI_1 i) (hn _ (fun j hj => by
      rw [nI_clamp (by omega)]
      by_cases e : j = i
      · rw [e, pk_us]
      · rw [pk_un e]
        exact h j (by omega))))⟩))
theorem ml_i153 {post : St1 → Prop} (H : ∀ fc a6' r7 r10, ml_F fc a6' → (∀ k, k < 6 → r7 k = -1) → (∀ t, t < 4 → r10 t = -1) → post (nI fc, l, g, a1, a2, a3, a4, a5, a6', r7, a8, a9, r10, a11, a12, a13, a14, a15, a16, a17, a18)) : ∃ n, wX_init_153 post mc ms kc ks l g n 511 0 a1 a2 a3 a4 a5 a6 a7 a8 a9 a10 a11 a12 a13 a14 a15 a16 a17 a18 := by
  have main := pk_loopD (σ := Nat × (Nat → Int32)) (fun n i s => i ≤ 512 → wX_init_153 post mc ms kc ks l g n (ml_bc i) (nI s.1) a1 a2 a3 a4 a5 s.2 a7 a8 a9 a10 a11 a12 a13 a14 a15 a16 a17 a18) (fun i s => ml_G (fun _ => 0) i s.1 s.2)
    (fun n s h _ => br_t (show (-1 : Int32) < 0 from ml_m1lt) (ml_i186 (fun r7 r10 h7 h10 => H s.1 s.2 r7 r10 (ml_G_F h).1 h7 h10)))
    (fun n i s h hn hi => by
      have i512 : i < 512 := by omega
      have lt512 := ml_G_lt h i512 rfl
      refine br_f (nI_pos (n := i) (by omega)) ⟨vp_in_nI lt512 (by decide), nm_r (e' := upd s.2 s.1 (nI i)) ?_ (nm_r (nI_1 s.1) (nm_r (ml_bc1 i) (hn (s.1 + 1, upd s.2 s.1 (nI i)) (ml_G_put h i512 rfl) (by omega))))⟩
      rw [nI_clamp (by omega), show (ml_bc (i + 1)).toInt16.toInt32 = nI i from ml_sh512 i i512])
  exact ⟨513, main 512 (0, a6) ⟨by omega, fun i hi => absurd hi (by omega), fun i i' _ hi => absurd hi (by omega)⟩ (Nat.le_refl 512)⟩
end
theorem i_vc (xs : Nat → Int32) (L : Nat) (hL : L ≤ 260) : wpL_law (fun r => r = 1) L xs := by
  refine ⟨18, 3730, by decide, by decide, ?_⟩
  unfold wpX_init
  refine ⟨by decide, by decide, by decide, by decide, by decide, by decide, by decide, by decide, by decide, by decide, by decide, by decide, by decide, by decide, by decide, by decide, by decide, by decide, by decide, by decide, by decide, by decide, by decide, by decide, by decide, by decide, by decide, by decide, by decide, by decide, by decide, by decide, by decide, by decide, by decide, by decide, ?_⟩
  refine ml_i153 (fun fc a6' r7 r10 hF h7 h10 => ?_)
  have T7 : ∀ k, k < 6 → ml_T (fun _ => 0) (ml_U fc a6') 6 (r7 k) := fun k hk => by rw [h7 k hk]; exact ml_T_m1 6
  have T10 : ∀ t, t < 4 → ml_T (fun _ => 0) (ml_U fc a6') 6 (r10 t) := fun t ht => by rw [h10 t ht]; exact ml_T_m1 6
  refine ml_sumw (s := 0) (lt := 0) (by omega) (by omega) (by decide) (T7 0 (by omega)) ?_
  exact ⟨L + 1, ml_loop hL (L + 1) 0 0 fc _ _ _ _ _ _ _ _ _ _ _ _ _ _ _ _ _ _ _ _ _ _ _ _ (by omega) (by omega) (by omega)
    ⟨hF, T7, T10, fun j _ => ⟨0, Nat.le_refl 0, rfl⟩, fun t _ => ⟨0, by omega, rfl⟩, fun j _ => ⟨0, by omega, rfl⟩, fun j _ => Or.inl rfl⟩
    ⟨fun t _ ho => absurd rfl ho, rfl, rfl, h10 2 (by omega), h10 3 (by omega)⟩
    ⟨rfl, fun z => absurd z (by omega), fun z => absurd z (by omega), fun z => absurd z (by omega)⟩⟩
end
