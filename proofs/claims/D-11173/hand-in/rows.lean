section
/-! sums of ints -/
def rw_sg (f : Nat → Int32) : Nat → Int32
  | 0 => 0
  | n + 1 => rw_sg f n + f n
theorem rw_sg_congr {f g : Nat → Int32} {n : Nat} (h : ∀ j, j < n → f j = g j) : rw_sg f n = rw_sg g n := by
  induction n with
  | zero => rfl
  | succ n ih =>
    show rw_sg f n + f n = rw_sg g n + g n
    rw [ih (fun j hj => h j (by omega)), h n (by omega)]
theorem rw_sg_add (f : Nat → Int32) (m : Nat) : ∀ k, rw_sg f (m + k) = rw_sg f m + rw_sg (fun i => f (m + i)) k := by
  intro k
  induction k with
  | zero =>
    show rw_sg f m = rw_sg f m + 0
    rw [Int32.add_zero]
  | succ k ih =>
    show rw_sg f (m + k) + f (m + k) = rw_sg f m + (rw_sg (fun i => f (m + i)) k + f (m + k))
    rw [ih, Int32.add_assoc]
theorem rw_sg_mul (x : Int32) (g : Nat → Int32) : ∀ k, rw_sg (fun i => x * g i) k = x * rw_sg g k := by
  intro k
  induction k with
  | zero =>
    show (0 : Int32) = x * 0
    rw [Int32.mul_zero]
  | succ k ih =>
    show rw_sg (fun i => x * g i) k + x * g k = x * (rw_sg g k + g k)
    rw [ih, Int32.mul_add]
theorem rw_sg_prod (f g : Nat → Int32) : ∀ n, rw_sg (fun c => f (c / 33) * g (c % 33)) (33 * n) = rw_sg f n * rw_sg g 33 := by
  intro n
  induction n with
  | zero =>
    show (0 : Int32) = 0 * rw_sg g 33
    rw [Int32.zero_mul]
  | succ n ih =>
    have e : rw_sg (fun i => f ((33 * n + i) / 33) * g ((33 * n + i) % 33)) 33 = f n * rw_sg g 33 := by
      rw [← rw_sg_mul]
      apply rw_sg_congr
      intro j hj
      rw [show (33 * n + j) / 33 = n by omega, show (33 * n + j) % 33 = j by omega]
    refine Eq.trans (rw_sg_add (fun c => f (c / 33) * g (c % 33)) (33 * n) 33) ?_
    show rw_sg (fun c => f (c / 33) * g (c % 33)) (33 * n) + rw_sg (fun i => f ((33 * n + i) / 33) * g ((33 * n + i) % 33)) 33 = (rw_sg f n + f n) * rw_sg g 33
    rw [e, ih, Int32.add_mul]
/-! the table of a high weight, a side at a time; what is in a product, a side at a time -/
def rw_t (a u : Nat) : Int32 := if 16 ≤ u + a ∧ u ≤ 16 + a ∧ (u + a) % 2 = 0 then 1 else 0
def rw_T (a b j : Nat) : Int32 := rw_t a (j / 33) * rw_t b (j % 33)
def rw_k (a c w u : Nat) : Int32 := if 16 ≤ u + a ∧ u ≤ 16 + a ∧ (u + a) % 2 = 0 then (if u + c = w + 16 then 1 else if u + c + w = 14 then -1 else 0) else 0
def rw_K (a c w : Nat) : Int32 := if a ≤ w + c ∧ c ≤ w + a ∧ w ≤ a + c ∧ (w + a + c) % 2 = 0 then 1 else 0
theorem rw_t01 (a u : Nat) : rw_t a u = 0 ∨ rw_t a u = 1 := by
  unfold rw_t
  split
  · exact Or.inr rfl
  · exact Or.inl rfl
theorem rw_K01 (a c w : Nat) : rw_K a c w = 0 ∨ rw_K a c w = 1 := by
  unfold rw_K
  split
  · exact Or.inr rfl
  · exact Or.inl rfl
theorem rw_k0 {a c w u : Nat} (h : rw_t a u = 0) : rw_k a c w u = 0 := by
  unfold rw_t at h
  unfold rw_k
  split at h
  · exact absurd h (by decide)
  · rename_i g
    rw [if_neg g]
theorem rw_p01 {x y : Int32} (hx : x = 0 ∨ x = 1) (hy : y = 0 ∨ y = 1) : x * y = 0 ∨ x * y = 1 := by
  rcases hx with h | h <;> rcases hy with g | g <;> subst h <;> subst g <;> decide
theorem rw_p10 {x y : Int32} (hx : x = 0 ∨ x = 1) (hy : y = 0 ∨ y = 1) (h : ¬ x * y = 0) : x = 1 ∧ y = 1 := by
  rcases hx with e | e <;> rcases hy with g | g <;> subst e <;> subst g <;> first | exact ⟨rfl, rfl⟩ | exact absurd (by decide) h
theorem rw_T01 (a b j : Nat) : rw_T a b j = 0 ∨ rw_T a b j = 1 := rw_p01 (rw_t01 _ _) (rw_t01 _ _)
theorem rw_tsum : ∀ a, a < 4 → rw_sg (rw_t a) 33 = nI (a + 1) := by decide +kernel
theorem rw_ksum : ∀ a, a < 4 → ∀ c, c < 4 → ∀ w, w < 33 → rw_sg (rw_k a c w) 33 = rw_K a c w := by decide +kernel
theorem rw_Ksum : ∀ a, a < 4 → ∀ c, c < 4 → rw_sg (rw_K a c) 33 = nI (min a c + 1) := by decide +kernel
/-- how many of the cells aren't 0 -/
def rw_cnt (T : Nat → Int32) (n : Nat) : Int32 := rw_sg (fun j => if T j = 0 then 0 else 1) n
theorem rw_cnt01 {T f g : Nat → Int32} (h : ∀ j, j < 1089 → T j = f (j / 33) * g (j % 33)) (hf : ∀ u, f u = 0 ∨ f u = 1) (hg : ∀ u, g u = 0 ∨ g u = 1) : rw_cnt T 1089 = rw_sg f 33 * rw_sg g 33 := by
  rw [← rw_sg_prod f g 33]
  refine rw_sg_congr (n := 1089) (fun j hj => ?_)
  show (if T j = 0 then (0 : Int32) else 1) = f (j / 33) * g (j % 33)
  rw [h j hj]
  rcases rw_p01 (hf (j / 33)) (hg (j % 33)) with e | e <;> rw [e] <;> decide
theorem rw_cntT {a b : Nat} (ha : a < 4) (hb : b < 4) {T : Nat → Int32} (h : ∀ j, j < 1089 → T j = rw_T a b j) : rw_cnt T 1089 = (nI a + 1) * (nI b + 1) := by
  rw [rw_cnt01 (f := rw_t a) (g := rw_t b) h (rw_t01 a) (rw_t01 b), rw_tsum a ha, rw_tsum b hb, nI_1, nI_1]
theorem rw_cntK {a b c d : Nat} (ha : a < 4) (hb : b < 4) (hc : c < 4) (hd : d < 4) {T : Nat → Int32} (h : ∀ j, j < 1089 → T j = rw_K a c (j / 33) * rw_K b d (j % 33)) : rw_cnt T 1089 = nI (min a c + 1) * nI (min b d + 1) := by
  rw [rw_cnt01 (f := rw_K a c) (g := rw_K b d) h (rw_K01 a c) (rw_K01 b d), rw_Ksum a ha c hc, rw_Ksum b hb d hd]
/-! ints near 0 -/
abbrev rw_nr (x y : Int32) : Prop := ¬ x < (-16) ∧ ¬ 16 < x ∧ ¬ y < (-16) ∧ ¬ 16 < y
theorem rw_n1 {x : Int32} (h : ¬ x < (-16)) (g : ¬ 16 < x) : ∃ i : Nat, i < 33 ∧ x = nI i - 16 := by
  rw [Int32.lt_iff_toInt_lt] at h g
  have e1 : (-16 : Int32).toInt = -16 := by decide
  have e2 : (16 : Int32).toInt = 16 := by decide
  refine ⟨(x.toInt + 16).toNat, by omega, Int32.toInt_inj.mp ?_⟩
  have e3 := pk_sub_toInt (a := (x.toInt + 16).toNat) (b := 16) (by omega) (by omega)
  refine Eq.trans ?_ e3.symm
  omega
theorem rw_f1 {x : Int32} (h : ¬ x < (-40)) (g : ¬ 40 < x) : ∃ i : Nat, i < 81 ∧ x = nI i - 40 := by
  rw [Int32.lt_iff_toInt_lt] at h g
  have e1 : (-40 : Int32).toInt = -40 := by decide
  have e2 : (40 : Int32).toInt = 40 := by decide
  refine ⟨(x.toInt + 40).toNat, by omega, Int32.toInt_inj.mp ?_⟩
  have e3 := pk_sub_toInt (a := (x.toInt + 40).toNat) (b := 40) (by omega) (by omega)
  refine Eq.trans ?_ e3.symm
  omega
theorem rw_cell (i j : Nat) : 33 * ((nI i - 16) + 16) + (nI j - 16) + 16 = nI (33 * i + j) := by
  rw [← nI_add, ← pk_mul, show nI 33 = (33 : Int32) from rfl]
  grind
theorem rw_nrc {x y : Int32} (h : rw_nr x y) : ∃ i j : Nat, i < 33 ∧ j < 33 ∧ x = nI i - 16 ∧ y = nI j - 16 ∧ 33 * (x + 16) + y + 16 = nI (33 * i + j) := by
  obtain ⟨i, hi, ei⟩ := rw_n1 h.1 h.2.1
  obtain ⟨j, hj, ej⟩ := rw_n1 h.2.2.1 h.2.2.2
  refine ⟨i, j, hi, hj, ei, ej, ?_⟩
  rw [ei, ej]
  exact rw_cell i j
end
section
/-! a table while it is built: m rows done, n places of the next one -/
abbrev rw_cd (a b m n u v : Nat) : Prop := u ≤ a + 16 ∧ (a + 16 - u) % 2 = 0 ∧ v ≤ b + 16 ∧ (b + 16 - v) % 2 = 0 ∧ (b + 16 - v) / 2 ≤ b ∧ ((a + 16 - u) / 2 < m ∨ ((a + 16 - u) / 2 = m ∧ (b + 16 - v) / 2 < n))
def rw_pic (a b m n j : Nat) : Int32 := if rw_cd a b m n (j / 33) (j % 33) then 1 else 0
theorem rw_if {p q : Prop} [Decidable p] [Decidable q] (h : p ↔ q) : (if p then (1 : Int32) else 0) = if q then 1 else 0 := by
  by_cases hp : p
  · rw [if_pos hp, if_pos (h.mp hp)]
  · rw [if_neg hp, if_neg (fun t => hp (h.mpr t))]
theorem rw_pic0 (a b j : Nat) : rw_pic a b 0 0 j = 0 := by
  unfold rw_pic
  rw [if_neg (by omega)]
theorem rw_picN (a b m j : Nat) : rw_pic a b m (b + 1) j = rw_pic a b (m + 1) 0 j := by
  unfold rw_pic
  exact rw_if (by constructor <;> intro h <;> omega)
theorem rw_cdT {a b u v : Nat} (ha : a < 4) (hb : b < 4) : rw_cd a b (a + 1) 0 u v ↔ ((16 ≤ u + a ∧ u ≤ 16 + a ∧ (u + a) % 2 = 0) ∧ (16 ≤ v + b ∧ v ≤ 16 + b ∧ (v + b) % 2 = 0)) := by
  constructor <;> intro h <;> omega
theorem rw_picT {a b : Nat} (ha : a < 4) (hb : b < 4) (j : Nat) : rw_pic a b (a + 1) 0 j = rw_T a b j := by
  unfold rw_pic rw_T rw_t
  rw [rw_if (rw_cdT ha hb)]
  by_cases h1 : 16 ≤ j / 33 + a ∧ j / 33 ≤ 16 + a ∧ (j / 33 + a) % 2 = 0
  · by_cases h2 : 16 ≤ j % 33 + b ∧ j % 33 ≤ 16 + b ∧ (j % 33 + b) % 2 = 0
    · rw [if_pos ⟨h1, h2⟩, if_pos h1, if_pos h2]
      decide
    · rw [if_neg (fun t => h2 t.2), if_pos h1, if_neg h2]
      decide
  · rw [if_neg (fun t => h1 t.1), if_neg h1, Int32.zero_mul]
theorem rw_cdS {a b m n u v : Nat} (ha : a < 4) (hb : b < 4) (hm : m ≤ a) (hn : n ≤ b) (h : ¬ (u = a + 16 - 2 * m ∧ v = b + 16 - 2 * n)) : rw_cd a b m n u v ↔ rw_cd a b m (n + 1) u v := by
  constructor <;> intro g <;> omega
theorem rw_picS {a b m n : Nat} (ha : a < 4) (hb : b < 4) (hm : m ≤ a) (hn : n ≤ b) {s : Nat → Int32} (h : ∀ j, j < 1089 → s j = rw_pic a b m n j) : ∀ j, j < 1089 → upd s (33 * (a + 16 - 2 * m) + (b + 16 - 2 * n)) 1 j = rw_pic a b m (n + 1) j := by
  intro j hj
  by_cases e : j = 33 * (a + 16 - 2 * m) + (b + 16 - 2 * n)
  · rw [← e, pk_us]
    unfold rw_pic
    rw [show j / 33 = a + 16 - 2 * m by omega, show j % 33 = b + 16 - 2 * n by omega, if_pos (by omega)]
  · rw [pk_un e, h j hj]
    unfold rw_pic
    exact rw_if (rw_cdS ha hb hm hn (by omega))
/-! one entry; a sum along a root -/
def rw_ent (T : Nat → Int32) (x y : Int32) : Int32 := if rw_nr x y then T (33 * (x + 16) + y + 16).toNatClampNeg else 0
theorem rw_ent_congr {T T' : Nat → Int32} (h : ∀ j, j < 1089 → T j = T' j) (x y : Int32) : rw_ent T x y = rw_ent T' x y := by
  unfold rw_ent
  by_cases g : rw_nr x y
  · rw [if_pos g, if_pos g]
    obtain ⟨i, j, hi, hj, _, _, e⟩ := rw_nrc g
    rw [e, nI_clamp (by omega)]
    exact h _ (by omega)
  · rw [if_neg g, if_neg g]
def rw_tm (T : Nat → Int32) (r1 r2 sA sB x y : Int32) (k : Nat) : Int32 := (r1 * 1 * (x + nI (k + 1) * sA) + r2 * 1 * (y + nI (k + 1) * sB)) * rw_ent T (x + nI (k + 1) * sA) (y + nI (k + 1) * sB)
theorem rw_tm_congr {T T' : Nat → Int32} (h : ∀ j, j < 1089 → T j = T' j) (r1 r2 sA sB x y : Int32) : rw_sg (rw_tm T r1 r2 sA sB x y) 32 = rw_sg (rw_tm T' r1 r2 sA sB x y) 32 := by
  refine rw_sg_congr (fun k _ => ?_)
  unfold rw_tm
  rw [rw_ent_congr h]
theorem rw_F1 : ∀ a, a < 4 → ∀ b, b < 4 → ∀ m, m < a + 1 → ∀ n, n < b + 1 → decide (rw_nr (nI a - 2 * nI m - 0 * nI n) (nI b - 0 * nI m - 2 * nI n)) = true := by decide +kernel
theorem rw_F2 : ∀ a, a < 4 → ∀ b, b < 4 → ∀ m, m < a + 1 → ∀ n, n < b + 1 → 33 * ((nI a - 2 * nI m - 0 * nI n) + 16) + (nI b - 0 * nI m - 2 * nI n) + 16 = nI (33 * (a + 16 - 2 * m) + (b + 16 - 2 * n)) := by decide +kernel
theorem rw_F3 : ∀ a, a < 4 → ∀ b, b < 4 → ∀ m, m < a + 1 → ∀ n, n < b + 1 → decide ((m = 0 ∧ n = 0) ∨ ¬ nI m * 1 * (nI a + (nI a - 2 * nI m - 0 * nI n) + 2) + nI n * 1 * (nI b + (nI b - 0 * nI m - 2 * nI n) + 2) ≤ 0 ∧ ¬ nI m * 1 * (nI a + (nI a - 2 * nI m - 0 * nI n) + 2) + nI n * 1 * (nI b + (nI b - 0 * nI m - 2 * nI n) + 2) = 0) = true := by decide +kernel
theorem rw_F4 : ∀ a, a < 4 → ∀ b, b < 4 → ∀ m, m < a + 1 → ∀ n, n < b + 1 → decide ((m = 0 ∧ n = 0) ∨ (2 * (0 + rw_sg (rw_tm (rw_pic a b m n) 1 0 2 0 (nI a - 2 * nI m - 0 * nI n) (nI b - 0 * nI m - 2 * nI n)) 32 + rw_sg (rw_tm (rw_pic a b m n) 0 1 0 2 (nI a - 2 * nI m - 0 * nI n) (nI b - 0 * nI m - 2 * nI n)) 32)) / (nI m * 1 * (nI a + (nI a - 2 * nI m - 0 * nI n) + 2) + nI n * 1 * (nI b + (nI b - 0 * nI m - 2 * nI n) + 2)) = 1) = true := by decide +kernel
theorem rw_F5 : ∀ a, a < 4 → ∀ b, b < 4 → ((4 * nI a) - ((2 * 0) * nI b)) / (4 - (0 * 0)) = nI a := by decide +kernel
theorem rw_F6 : ∀ a, a < 4 → ∀ b, b < 4 → ((1 * ((1 * (nI a + 1)) + (0 * (nI b + 1))).toInt64 * ((0 * (nI a + 1)) + (1 * (nI b + 1))).toInt64) / (1 * ((1 : Int32) + 0).toInt64 * ((0 : Int32) + 1).toInt64)).toInt32 = (nI a + 1) * (nI b + 1) := by decide +kernel
end
section
section
variable {fa fb sa sb gA gB ta tb ts : Int32} {a1 a2 a3 a4 a5 : Nat → Int32}
theorem rw_fill {f s : Nat → Int32} {i : Nat} {x : Int32} (h : ∀ j, j < i → s j = f j) (hx : x = f i) : ∀ j, j < i + 1 → upd s i x j = f j := by
  intro j hj
  by_cases e : j = i
  · rw [e, pk_us, hx]
  · rw [pk_un e]
    exact h j (by omega)
theorem rw_isNear {post : Int32 → Prop} {u : St0} {x y : Int32} (h1 : rw_nr x y → post 1) (h0 : ¬ rw_nr x y → post 0) : wpX_isNear post u x y :=
  br_c (fun h => h0 (fun t => t.1 h)) (fun g1 => br_c (fun h => h0 (fun t => t.2.1 h)) (fun g2 => br_c (fun h => h0 (fun t => t.2.2.1 h)) (fun g3 => br_c (fun h => h0 (fun t => t.2.2.2 h)) (fun g4 => h1 ⟨g1, g2, g3, g4⟩))))
theorem rw_cellw {post : Int32 → Prop} {u : St0} {x y v : Int32} (h : 33 * (x + 16) + y + 16 = v) (hp : post v) : wpX_cell post u x y := by
  unfold wpX_cell
  rw [h]
  exact hp
theorem rw_entry {post : Int32 → Prop} {x y : Int32} (hp : post (rw_ent a4 x y)) : wpX_entry post (0, 0, 0, 1, 1, 2, 4, fa, fb, sa, sb, gA, gB, ta, tb, ts, a1, a2, a3, a4, a5) x y := by
  unfold wpX_entry
  refine rw_isNear (fun h => ?_) (fun h => ?_)
  · have e : rw_ent a4 x y = a4 (33 * (x + 16) + y + 16).toNatClampNeg := if_pos h
    rw [e] at hp
    obtain ⟨i, j, hi, hj, _, _, e2⟩ := rw_nrc h
    rw [e2] at hp
    exact br_f (by decide) (rw_cellw e2 ⟨pk_in (33 * i + j) 1089 (by omega), hp⟩)
  · have e : rw_ent a4 x y = 0 := if_neg h
    rw [e] at hp
    exact br_t rfl hp
theorem rw_sum50 {post : Int32 → Prop} {x1 x y sA sB : Int32} (h1 : vp_in x1 24) (hp : post (rw_sg (rw_tm a4 (a1 x1.toNatClampNeg) (a2 x1.toNatClampNeg) sA sB x y) 32)) : ∃ n, wX_sumAlong_50 post x1 x y sA sB 0 0 0 1 1 2 4 fa fb sa sb gA gB ta tb ts a1 a2 a3 a4 a5 n 0 1 := by
  refine pk_loop (fun n i s => wX_sumAlong_50 post x1 x y sA sB 0 0 0 1 1 2 4 fa fb sa sb gA gB ta tb ts a1 a2 a3 a4 a5 n s (nI (i + 1))) (fun i s => s = rw_sg (rw_tm a4 (a1 x1.toNatClampNeg) (a2 x1.toNatClampNeg) sA sB x y) i) 32 0 0 (by omega) rfl (fun n s h => ?_) (fun n i s hi h hw => ?_)
  · have h' : s = rw_sg (rw_tm a4 (a1 x1.toNatClampNeg) (a2 x1.toNatClampNeg) sA sB x y) 32 := h
    subst h'
    exact pk_lt 32 33 (fun _ => hp) (fun z => absurd z (by omega))
  · have h' : s = rw_sg (rw_tm a4 (a1 x1.toNatClampNeg) (a2 x1.toNatClampNeg) sA sB x y) i := h
    subst h'
    exact pk_lt 32 (i + 1) (fun z => absurd z (by omega)) (fun _ => nm_e (nm_e ⟨h1, h1, nm_e (rw_entry (nm_e (nm_r (nI_1 (i + 1)) (hw _ rfl))))⟩))
theorem rw_sumAlong {post : Int32 → Prop} {x1 x y : Int32} (h1 : vp_in x1 24) (hp : post (rw_sg (rw_tm a4 (a1 x1.toNatClampNeg) (a2 x1.toNatClampNeg) (2 * a1 x1.toNatClampNeg + 0 * a2 x1.toNatClampNeg) (0 * a1 x1.toNatClampNeg + 2 * a2 x1.toNatClampNeg) x y) 32)) : wpX_sumAlong post (0, 0, 0, 1, 1, 2, 4, fa, fb, sa, sb, gA, gB, ta, tb, ts, a1, a2, a3, a4, a5) x1 x y := by
  unfold wpX_sumAlong
  exact ⟨h1, h1, nm_e ⟨h1, h1, nm_e (rw_sum50 h1 hp)⟩⟩
/-- what the walks need of the roots' arrays: the two roots of type 0 -/
def rw_ok (a1 a2 : Nat → Int32) : Prop := (a1 0 = 1 ∧ a1 1 = 0) ∧ (a2 0 = 0 ∧ a2 1 = 1)
theorem rw_sa0 {post : Int32 → Prop} {x1 x y : Int32} (k : rw_ok a1 a2) (hx : x1 = nI 0) (hp : post (rw_sg (rw_tm a4 1 0 2 0 x y) 32)) : wpX_sumAlong post (0, 0, 0, 1, 1, 2, 4, fa, fb, sa, sb, gA, gB, ta, tb, ts, a1, a2, a3, a4, a5) x1 x y := by
  subst hx
  refine rw_sumAlong (pk_in 0 24 (by omega)) ?_
  rw [nI_clamp (by omega), k.1.1, k.2.1, show (2 * 1 + 0 * 0 : Int32) = 2 by decide, show (0 * 1 + 2 * 0 : Int32) = 0 by decide]
  exact hp
theorem rw_sa1 {post : Int32 → Prop} {x1 x y : Int32} (k : rw_ok a1 a2) (hx : x1 = nI 1) (hp : post (rw_sg (rw_tm a4 0 1 0 2 x y) 32)) : wpX_sumAlong post (0, 0, 0, 1, 1, 2, 4, fa, fb, sa, sb, gA, gB, ta, tb, ts, a1, a2, a3, a4, a5) x1 x y := by
  subst hx
  refine rw_sumAlong (pk_in 1 24 (by omega)) ?_
  rw [nI_clamp (by omega), k.1.2, k.2.2, show (2 * 0 + 0 * 1 : Int32) = 0 by decide, show (0 * 0 + 2 * 1 : Int32) = 2 by decide]
  exact hp
theorem rw_b109 {post : St2 → Prop} {x y D : Int32} (k : rw_ok a1 a2) (hD : ¬ D = 0) {C : Nat} (hC : 33 * (x + 16) + y + 16 = nI C) (hC' : C < 1089) (hp : post (0, 0, 0, 1, 1, 2, 4, fa, fb, sa, sb, gA, gB, ta, tb, ts, a1, a2, a3, upd a4 C (2 * (0 + rw_sg (rw_tm a4 1 0 2 0 x y) 32 + rw_sg (rw_tm a4 0 1 0 2 x y) 32) / D), a5)) : ∃ n, wX_buildOne_109 post x y D 0 0 0 1 1 2 4 fa fb sa sb gA gB ta tb ts a1 a2 a3 a4 a5 n 0 0 := by
  refine ⟨3, br_f (by decide) ?_⟩
  refine rw_sa0 k (by decide) ?_
  refine nm_e (nm_r (show (0 + 1 : Int32) = 1 by decide) ?_)
  refine br_f (by decide) ?_
  refine rw_sa1 k (by decide) ?_
  refine nm_e (nm_r (show (1 + 1 : Int32) = 2 by decide) ?_)
  refine br_t (by decide) ?_
  refine rw_cellw hC ?_
  exact ⟨hD, pk_in C 1089 hC', nm_r (by rw [nI_clamp (by omega)]) hp⟩
theorem rw_buildOne {post : St2 → Prop} {a b m n : Nat} (ha : a < 4) (hb : b < 4) (hm : m ≤ a) (hn : n ≤ b) (k : rw_ok a1 a2) (h4 : ∀ j, j < 1089 → a4 j = rw_pic a b m n j)
    (hp : post (0, 0, 0, 1, 1, 2, 4, fa, fb, sa, sb, nI a, nI b, ta, tb, ts, a1, a2, a3, upd a4 (33 * (a + 16 - 2 * m) + (b + 16 - 2 * n)) 1, a5)) : wpX_buildOne post (0, 0, 0, 1, 1, 2, 4, fa, fb, sa, sb, nI a, nI b, ta, tb, ts, a1, a2, a3, a4, a5) (nI m) (nI n) := by
  have hc := rw_F2 a ha b hb m (by omega) n (by omega)
  have two : ¬ (m = 0 ∧ n = 0) → wX_buildOne_64 post (nI m) (nI n) (nI a - 2 * nI m - 0 * nI n) (nI b - 0 * nI m - 2 * nI n) 0 0 0 1 1 2 4 fa fb sa sb (nI a) (nI b) ta tb ts a1 a2 a3 a4 a5 := by
    intro hz
    have h3 := (of_decide_eq_true (rw_F3 a ha b hb m (by omega) n (by omega))).resolve_left hz
    have h4' := (of_decide_eq_true (rw_F4 a ha b hb m (by omega) n (by omega))).resolve_left hz
    unfold wX_buildOne_64
    refine nm_e (br_f h3.1 (rw_b109 k h3.2 hc (by omega) ?_))
    rw [rw_tm_congr h4, rw_tm_congr h4, h4']
    exact hp
  unfold wpX_buildOne
  refine nm_e (nm_e ?_)
  refine rw_isNear (fun _ => ?_) (fun h => absurd (of_decide_eq_true (rw_F1 a ha b hb m (by omega) n (by omega))) h)
  refine br_f (by decide) ?_
  refine pk_eq m 0 (fun zm => ?_) (fun zm => two (by omega))
  refine pk_eq n 0 (fun zn => ?_) (fun zn => two (by omega))
  exact rw_cellw hc ⟨pk_in (33 * (a + 16 - 2 * m) + (b + 16 - 2 * n)) 1089 (by omega), nm_r (by rw [nI_clamp (by omega)]) hp⟩
theorem rw_b46 {post : St2 → Prop} {a b : Nat} (ha : a < 4) (hb : b < 4) (k : rw_ok a1 a2) (h4 : ∀ j, j < 1089 → a4 j = 0) (hp : ∀ s : Nat → Int32, (∀ j, j < 1089 → s j = rw_T a b j) → post (0, 0, 0, 1, 1, 2, 4, fa, fb, sa, sb, nI a, nI b, ta, tb, ts, a1, a2, a3, s, a5)) : ∃ n, wX_build_46 post (nI a) (nI b) n 0 0 0 0 1 1 2 4 fa fb sa sb (nI a) (nI b) ta tb ts a1 a2 a3 a4 a5 := by
  refine pk_loop (fun n i s => wX_build_46 post (nI a) (nI b) n (nI i) 0 0 0 1 1 2 4 fa fb sa sb (nI a) (nI b) ta tb ts a1 a2 a3 s a5) (fun i s => ∀ j, j < 1089 → s j = rw_pic a b i 0 j) (a + 1) 0 a4 (by omega) (fun j hj => by rw [h4 j hj, rw_pic0]) (fun n s h => ?_) (fun n i s hi h hw => ?_)
  · exact pk_lt a (a + 1) (fun _ => hp s (fun j hj => (h j hj).trans (rw_picT ha hb j))) (fun z => absurd z (by omega))
  · refine pk_lt a i (fun z => absurd z (by omega)) (fun _ => ?_)
    refine pk_loop (fun n' i' s' => wX_build_55 post (wX_build_46 post (nI a) (nI b) n) (nI a) (nI b) (nI i) n' (nI i') 0 0 0 1 1 2 4 fa fb sa sb (nI a) (nI b) ta tb ts a1 a2 a3 s' a5) (fun i' s' => ∀ j, j < 1089 → s' j = rw_pic a b i i' j) (b + 1) 0 s (by omega) h (fun n' s' h' => ?_) (fun n' i' s' hi' h' hw' => ?_)
    · exact pk_lt b (b + 1) (fun _ => nm_r (nI_1 i) (hw s' (fun j hj => (h' j hj).trans (rw_picN a b i j)))) (fun z => absurd z (by omega))
    · refine pk_lt b i' (fun z => absurd z (by omega)) (fun _ => ?_)
      refine rw_buildOne ha hb (by omega) (by omega) k h' ?_
      exact nm_r (nI_1 i') (hw' _ (rw_picS ha hb (by omega) (by omega) h'))
theorem rw_rf {post : Int32 → Prop} {a b : Nat} (ha : a < 4) (hb : b < 4) (hp : post (nI a)) : wpX_reachFirst post (0, 0, 0, 1, 1, 2, 4, fa, fb, sa, sb, nI a, nI b, ta, tb, ts, a1, a2, a3, a4, a5) := by
  unfold wpX_reachFirst
  refine br_f (by decide) ⟨by decide, ?_⟩
  rw [rw_F5 a ha b hb]
  exact hp
theorem rw_rs {post : Int32 → Prop} {a b : Nat} (ha : a < 4) (hb : b < 4) (hp : post (nI b)) : wpX_reachSecond post (0, 0, 0, 1, 1, 2, 4, fa, fb, sa, sb, nI a, nI b, ta, tb, ts, a1, a2, a3, a4, a5) := by
  unfold wpX_reachSecond
  refine br_f (by decide) ⟨by decide, ?_⟩
  rw [rw_F5 b hb a ha]
  exact hp
theorem rw_build {post : St2 → Prop} {a b : Nat} (ha : a < 4) (hb : b < 4) (k : rw_ok a1 a2) (hp : ∀ s : Nat → Int32, (∀ j, j < 1089 → s j = rw_T a b j) → post (0, 0, 0, 1, 1, 2, 4, fa, fb, sa, sb, nI a, nI b, ta, tb, ts, a1, a2, a3, s, a5)) : wpX_build post (0, 0, 0, 1, 1, 2, 4, fa, fb, sa, sb, gA, gB, ta, tb, ts, a1, a2, a3, a4, a5) (nI a) (nI b) := by
  unfold wpX_build
  refine pk_loop (fun n i s => wX_build_12 post 0 0 0 1 1 2 4 fa fb sa sb (nI a) (nI b) ta tb ts n (nI i) a1 a2 a3 s a5) (fun i s => ∀ j, j < i → s j = (fun _ => (0 : Int32)) j) 1089 0 a4 (by omega) (fun j hj => absurd hj (by omega)) (fun n s h => ?_) (fun n i s hi h hw => ?_)
  · refine pk_le 1089 1089 (fun _ => ?_) (fun z => absurd z (by omega))
    exact rw_rf ha hb (rw_rs ha hb (rw_b46 ha hb k h hp))
  · exact pk_le 1089 i (fun z => absurd z (by omega)) (fun _ => ⟨pk_in i 1089 hi, nm_r (by rw [nI_clamp (by omega)]) (nm_r (nI_1 i) (hw (upd s i 0) (rw_fill (f := fun _ => (0 : Int32)) h rfl)))⟩)
theorem rw_buildFirst {post : St2 → Prop} {a b : Nat} (ha : a < 4) (hb : b < 4) (k : rw_ok a1 a2) (hp : ∀ s t : Nat → Int32, (∀ j, j < 1089 → s j = rw_T a b j) → (∀ j, j < 1089 → t j = rw_T a b j) → post (0, 0, 0, 1, 1, 2, 4, nI a, nI b, sa, sb, nI a, nI b, ta, tb, ts, a1, a2, t, s, a5)) : wpX_buildFirst post (0, 0, 0, 1, 1, 2, 4, nI a, nI b, sa, sb, gA, gB, ta, tb, ts, a1, a2, a3, a4, a5) := by
  unfold wpX_buildFirst
  refine rw_build ha hb k (fun s hs => ?_)
  refine pk_loop (fun n i t => wX_buildFirst_14 post 0 0 0 1 1 2 4 (nI a) (nI b) sa sb (nI a) (nI b) ta tb ts n (nI i) a1 a2 t s a5) (fun i t => ∀ j, j < i → t j = s j) 1089 0 a3 (by omega) (fun j hj => absurd hj (by omega)) (fun n t h => ?_) (fun n i t hi h hw => ?_)
  · exact pk_le 1089 1089 (fun _ => hp s t hs (fun j hj => (h j hj).trans (hs j hj))) (fun z => absurd z (by omega))
  · exact pk_le 1089 i (fun z => absurd z (by omega)) (fun _ => ⟨pk_in i 1089 hi, pk_in i 1089 hi, nm_r (by rw [nI_clamp (by omega)]) (nm_r (nI_1 i) (hw (upd t i (s i)) (rw_fill h rfl)))⟩)
end
end
section
section
variable {fa fb sa sb gA gB ta tb ts : Int32} {a1 a2 a3 a4 a5 : Nat → Int32}
theorem rw_6i (i r : Nat) : 6 * nI i + nI r = nI (6 * i + r) := by
  rw [show (6 : Int32) = nI 6 from rfl, pk_mul, nI_add]
theorem rw_setRoot {post : St2 → Prop} {t0 p0 q0 l0 s0 r0 m0 fa fb sa sb gA gB ta tb ts : Int32} {a1 a2 a3 a4 a5 : Nat → Int32} {x v w : Int32} (i : Nat) (hi : i < 24) (hx : x = nI i) (hp : post (t0, p0, q0, l0, s0, r0, m0, fa, fb, sa, sb, gA, gB, ta, tb, ts, upd a1 i v, upd a2 i w, a3, a4, a5)) : wpX_setRoot post (t0, p0, q0, l0, s0, r0, m0, fa, fb, sa, sb, gA, gB, ta, tb, ts, a1, a2, a3, a4, a5) x v w := by
  subst hx
  unfold wpX_setRoot
  exact ⟨pk_in i 24 hi, nm_r (by rw [nI_clamp (by omega)]) ⟨pk_in i 24 hi, nm_r (by rw [nI_clamp (by omega)]) hp⟩⟩
theorem rw_up4 {f : Nat → Int32} {i : Nat} {v0 v1 v2 v3 : Int32} (h : 1 ≤ i → f 0 = v0 ∧ f 1 = v1) : upd (upd (upd (upd f (6 * i + 0) v0) (6 * i + 1) v1) (6 * i + 2) v2) (6 * i + 3) v3 0 = v0 ∧ upd (upd (upd (upd f (6 * i + 0) v0) (6 * i + 1) v1) (6 * i + 2) v2) (6 * i + 3) v3 1 = v1 := by
  rcases Nat.eq_zero_or_pos i with e | e
  · subst e
    exact ⟨rfl, rfl⟩
  · have g := h e
    rw [pk_un (by omega), pk_un (by omega), pk_un (by omega), pk_un (by omega), pk_un (by omega), pk_un (by omega), pk_un (by omega), pk_un (by omega)]
    exact g
theorem rw_lay {post : St2 → Prop} {a1 a2 a3 a4 a5 : Nat → Int32} (k : rw_ok a1 a2) (hp : ∀ (fa fb sa sb gA gB ta tb ts : Int32) (a3 a4 a5 : Nat → Int32), post (0, 0, 0, 1, 1, 2, 4, fa, fb, sa, sb, gA, gB, ta, tb, ts, a1, a2, a3, a4, a5)) : wpX_lay post (0, 0, 0, 0, 0, 0, 0, 0, 0, 0, 0, 0, 0, 0, 0, 0, a1, a2, a3, a4, a5) 0 := by
  unfold wpX_lay
  refine br_t rfl ?_
  unfold wX_lay_16
  refine br_t rfl ?_
  unfold wX_lay_29
  refine br_t rfl ?_
  unfold wX_lay_42
  refine br_t rfl ?_
  unfold wX_lay_79
  refine nm_r (show (2 * 2 : Int32) = 4 by decide) ?_
  refine rw_buildFirst (a := 0) (b := 0) (by omega) (by omega) k (fun s t hs ht => ?_)
  exact hp _ _ _ _ _ _ _ _ _ _ _ _
theorem rw_init {post : St2 → Prop} {mc ms : Nat} (hmc : 5 ≤ mc) (hms : 3315 ≤ ms) (hp : ∀ (fa fb sa sb gA gB ta tb ts : Int32) (a1 a2 a3 a4 a5 : Nat → Int32), rw_ok a1 a2 → post (0, 0, 0, 1, 1, 2, 4, fa, fb, sa, sb, gA, gB, ta, tb, ts, a1, a2, a3, a4, a5)) : wpX_init post mc ms (0, 0, 0, 0, 0, 0, 0, 0, 0, 0, 0, 0, 0, 0, 0, 0) 0 := by
  unfold wpX_init
  refine ⟨by omega, by omega, by omega, by omega, by omega, by omega, by omega, by omega, by omega, by omega, ?_⟩
  refine br_t (by decide) (br_t (by decide) ?_)
  refine pk_loop (fun n i s => wX_init_68 post mc ms 0 5 3315 n (nI i) 0 0 0 0 0 0 0 0 0 0 0 0 0 0 0 0 s.1 s.2 (fun _ => 0) (fun _ => 0) (fun _ => 0)) (fun i s => 1 ≤ i → rw_ok s.1 s.2) 4 0 ((fun _ => 0), (fun _ => 0)) (by omega) (fun h => absurd h (by omega)) (fun n s h => ?_) (fun n i s hi h hw => ?_)
  · have k := h (by omega)
    refine pk_le 4 4 (fun _ => ?_) (fun z => absurd z (by omega))
    refine rw_setRoot 22 (by omega) rfl ?_
    refine rw_setRoot 23 (by omega) rfl ?_
    refine rw_lay ?_ (fun fa fb sa sb gA gB ta tb ts a3 a4 a5 => hp _ _ _ _ _ _ _ _ _ _ _ _ _ _ ?_)
    · exact k
    · exact k
  · refine pk_le 4 i (fun z => absurd z (by omega)) (fun _ => ?_)
    refine rw_setRoot (6 * i + 0) (by omega) (pk_mul 6 i) ?_
    refine rw_setRoot (6 * i + 1) (by omega) (rw_6i i 1) ?_
    refine rw_setRoot (6 * i + 2) (by omega) (rw_6i i 2) ?_
    refine rw_setRoot (6 * i + 3) (by omega) (rw_6i i 3) ?_
    refine nm_r (nI_1 i) (hw (_, _) (fun _ => ?_))
    exact ⟨rw_up4 (v2 := 1) (v3 := 1) (fun z => (h z).1), rw_up4 (v2 := 1) (v3 := 2) (fun z => (h z).2)⟩
theorem rw_isSmall {post : Int32 → Prop} {u : St0} {a b : Nat} (ha : a < 4) (hb : b < 4) (hp : post 1) : wpX_isSmall post u (nI a) (nI b) :=
  pk_lt a 0 (fun z => absurd z (by omega)) (fun _ => pk_lt 3 a (fun z => absurd z (by omega)) (fun _ => pk_lt b 0 (fun z => absurd z (by omega)) (fun _ => pk_lt 3 b (fun z => absurd z (by omega)) (fun _ => hp))))
theorem rw_built {post : Int32 → Prop} (hp : post (rw_cnt a4 1089)) : wpX_built post (0, 0, 0, 1, 1, 2, 4, fa, fb, sa, sb, gA, gB, ta, tb, ts, a1, a2, a3, a4, a5) := by
  unfold wpX_built
  refine pk_loop (fun n i s => wX_built_4 post 0 0 0 1 1 2 4 fa fb sa sb gA gB ta tb ts a1 a2 a3 a4 a5 n s (nI i)) (fun i s => s = rw_cnt a4 i) 1089 0 0 (by omega) rfl (fun n s h => ?_) (fun n i s hi h hw => ?_)
  · have h' : s = rw_cnt a4 1089 := h
    subst h'
    exact pk_le 1089 1089 (fun _ => hp) (fun z => absurd z (by omega))
  · have h' : s = rw_cnt a4 i := h
    subst h'
    refine pk_le 1089 i (fun z => absurd z (by omega)) (fun _ => ⟨pk_in i 1089 hi, ?_⟩)
    rw [nI_clamp (by omega)]
    refine br_c (fun z => nm_e (nm_r (nI_1 i) (hw _ ?_))) (fun z => nm_e (nm_r (nI_1 i) (hw _ ?_)))
    · show rw_cnt a4 i + 0 = rw_cnt a4 i + (if a4 i = 0 then 0 else 1)
      rw [if_pos z]
    · show rw_cnt a4 i + 1 = rw_cnt a4 i + (if a4 i = 0 then 0 else 1)
      rw [if_neg z]
theorem rw_first {post : Int32 → St2 → Prop} {a b : Nat} (ha : a < 4) (hb : b < 4) (k : rw_ok a1 a2) (hp : ∀ s t : Nat → Int32, (∀ j, j < 1089 → t j = rw_T a b j) → post ((nI a + 1) * (nI b + 1)) (0, 0, 0, 1, 1, 2, 4, nI a, nI b, sa, sb, nI a, nI b, ta, tb, ts, a1, a2, t, s, a5)) : wpX_first post (0, 0, 0, 1, 1, 2, 4, fa, fb, sa, sb, gA, gB, ta, tb, ts, a1, a2, a3, a4, a5) (nI a) (nI b) := by
  unfold wpX_first
  refine rw_isSmall ha hb ?_
  refine br_f (by decide) ?_
  refine rw_buildFirst ha hb k (fun s t hs ht => ?_)
  refine rw_built ?_
  have g := hp s t ht
  rw [← rw_cntT ha hb hs] at g
  exact g
theorem rw_second {post : Int32 → St2 → Prop} {a b : Nat} (ha : a < 4) (hb : b < 4) (k : rw_ok a1 a2) (hp : ∀ s : Nat → Int32, post ((nI a + 1) * (nI b + 1)) (0, 0, 0, 1, 1, 2, 4, fa, fb, nI a, nI b, nI a, nI b, ta, tb, ts, a1, a2, a3, s, a5)) : wpX_second post (0, 0, 0, 1, 1, 2, 4, fa, fb, sa, sb, gA, gB, ta, tb, ts, a1, a2, a3, a4, a5) (nI a) (nI b) := by
  unfold wpX_second
  refine rw_isSmall ha hb ?_
  refine br_f (by decide) ?_
  refine rw_build ha hb k (fun s hs => ?_)
  refine rw_built ?_
  have g := hp s
  rw [← rw_cntT ha hb hs] at g
  exact g
theorem rw_size {post : Int32 → Prop} {a b : Nat} (ha : a < 4) (hb : b < 4) (k : rw_ok a1 a2) (hp : post ((nI a + 1) * (nI b + 1))) : wpX_size post (0, 0, 0, 1, 1, 2, 4, nI a, nI b, sa, sb, gA, gB, ta, tb, ts, a1, a2, a3, a4, a5) := by
  unfold wpX_size
  refine ⟨3, br_f (by decide) ?_⟩
  have c0 : ((6 * 0) + 0 : Int32).toNatClampNeg = 0 := by decide
  have c1 : ((6 * 0) + 1 : Int32).toNatClampNeg = 1 := by decide
  have i0 : vp_in ((6 * 0) + 0 : Int32) 24 := vp_in_iff.mpr (by decide)
  have i1 : vp_in ((6 * 0) + 1 : Int32) 24 := vp_in_iff.mpr (by decide)
  refine ⟨i0, nm_r (e' := 1) (by rw [c0, k.1.1]; decide) ⟨i0, nm_r (e' := 0) (by rw [c0, k.2.1]; decide) ?_⟩⟩
  refine nm_e (nm_e (nm_r (show (0 + 1 : Int32) = 1 by decide) ?_))
  refine br_f (by decide) ?_
  refine ⟨i1, nm_r (e' := 0) (by rw [c1, k.1.2]; decide) ⟨i1, nm_r (e' := 1) (by rw [c1, k.2.2]; decide) ?_⟩⟩
  refine nm_e (nm_e (nm_r (show (1 + 1 : Int32) = 2 by decide) ?_))
  refine br_t (by decide) ?_
  have nz : ¬ (1 * ((1 : Int32) + 0).toInt64 * ((0 : Int32) + 1).toInt64) = 0 := by decide
  refine br_f nz ⟨nz, ?_⟩
  rw [rw_F6 a ha b hb]
  exact hp
theorem rw_most {post : Int32 → Prop} {a b : Nat} (ha : a < 4) (hb : b < 4) (ht : ∀ j, j < 1089 → a3 j = rw_T a b j) (hp : post 1) : wpX_most post (0, 0, 0, 1, 1, 2, 4, fa, fb, sa, sb, gA, gB, ta, tb, ts, a1, a2, a3, a4, a5) := by
  unfold wpX_most
  have hC : rw_T a b (33 * (16 + a) + (16 + b)) = 1 := by
    unfold rw_T rw_t
    rw [show (33 * (16 + a) + (16 + b)) / 33 = 16 + a by omega, show (33 * (16 + a) + (16 + b)) % 33 = 16 + b by omega, if_pos (by omega), if_pos (by omega)]
    decide
  refine pk_loop (fun n i s => wX_most_4 post 0 0 0 1 1 2 4 fa fb sa sb gA gB ta tb ts a1 a2 a3 a4 a5 n s (nI i)) (fun i s => (s = 0 ∨ s = 1) ∧ (33 * (16 + a) + (16 + b) < i → s = 1)) 1089 0 0 (by omega) ⟨Or.inl rfl, fun z => absurd z (by omega)⟩ (fun n s h => ?_) (fun n i s hi h hw => ?_)
  · have h' : s = 1 := h.2 (by omega)
    subst h'
    exact pk_le 1089 1089 (fun _ => hp) (fun z => absurd z (by omega))
  · refine pk_le 1089 i (fun z => absurd z (by omega)) (fun _ => ⟨pk_in i 1089 hi, ?_⟩)
    rw [nI_clamp (by omega), ht i hi]
    refine br_c (fun z => nm_r (nI_1 i) (hw s ⟨h.1, fun q => ?_⟩)) (fun z => ⟨pk_in i 1089 hi, nm_e (nm_r (nI_1 i) (hw _ ⟨rw_T01 a b i, fun q => ?_⟩))⟩)
    · rcases Nat.lt_or_ge (33 * (16 + a) + (16 + b)) i with e | e
      · exact h.2 e
      · have e' : i = 33 * (16 + a) + (16 + b) := by omega
        rw [e', hC] at z
        rcases h.1 with g | g
        · rw [g] at z
          exact absurd z (by decide)
        · exact g
    · rcases rw_T01 a b i with g | g
      · rw [g] at z
        rcases h.1 with f | f
        · rw [f] at z
          exact absurd (by decide) z
        · rw [f] at z
          exact absurd (by decide) z
      · exact g
end
end
section
section
variable {fa fb sa sb gA gB ta tb ts : Int32} {a1 a2 a3 a4 a5 : Nat → Int32}
def rw_ab (x : Int32) : Int32 := if x < 0 then -x else x
def rw_sn (x : Int32) : Int32 := if x < 0 then -1 else 1
def rw_o (x : Int32) : Int32 := if x = 0 then 1 else 2
theorem rw_nle {x : Int32} (h : x < 0) : ¬ 0 ≤ x := by
  rw [Int32.le_iff_toInt_le]
  rw [Int32.lt_iff_toInt_lt] at h
  omega
theorem rw_le {x : Int32} (h : ¬ x < 0) : 0 ≤ x := by
  rw [Int32.le_iff_toInt_le]
  rw [Int32.lt_iff_toInt_lt] at h
  omega
theorem rw_s0 (x y : Int32) : x - y * 0 = x := by
  rw [Int32.mul_zero, Int32.sub_zero]
theorem rw_tu0 {post : St2 → Prop} {n i : Nat} {A B S : Int32} (hi : i < 12) (hA : ¬ A < 0) (hB : ¬ B < 0) (hp : post (0, 0, 0, 1, 1, 2, 4, fa, fb, sa, sb, gA, gB, A, B, S, a1, a2, a3, a4, a5)) : wX_turnUp_17 post 0 0 0 1 1 2 4 fa fb sa sb gA gB a1 a2 a3 a4 a5 (n + 1) (nI i) A B S :=
  pk_le 12 i (fun z => absurd z (by omega)) (fun _ => br_f hA (br_t (rw_le hB) hp))
theorem rw_tuA {post : St2 → Prop} {n i : Nat} {A B S : Int32} (hi : i < 12) (hA : A < 0) (hp : wX_turnUp_17 post 0 0 0 1 1 2 4 fa fb sa sb gA gB a1 a2 a3 a4 a5 n (nI (i + 1)) (-A) B (-S)) : wX_turnUp_17 post 0 0 0 1 1 2 4 fa fb sa sb gA gB a1 a2 a3 a4 a5 (n + 1) (nI i) A B S :=
  pk_le 12 i (fun z => absurd z (by omega)) (fun _ => br_t hA (br_f (rw_nle hA) (nm_r (rw_s0 B A) (nm_e (nm_e (nm_r (nI_1 i) hp))))))
theorem rw_tuB {post : St2 → Prop} {n i : Nat} {A B S : Int32} (hi : i < 12) (hA : ¬ A < 0) (hB : B < 0) (hp : wX_turnUp_17 post 0 0 0 1 1 2 4 fa fb sa sb gA gB a1 a2 a3 a4 a5 n (nI (i + 1)) A (-B) (-S)) : wX_turnUp_17 post 0 0 0 1 1 2 4 fa fb sa sb gA gB a1 a2 a3 a4 a5 (n + 1) (nI i) A B S :=
  pk_le 12 i (fun z => absurd z (by omega)) (fun _ => br_f hA (br_f (rw_nle hB) (br_t (rw_le hA) (nm_r (rw_s0 A B) (nm_e (nm_e (nm_r (nI_1 i) hp)))))))
theorem rw_turnUp {post : St2 → Prop} {x y : Int32} (hx : ¬ rw_ab x < 0) (hy : ¬ rw_ab y < 0) (hp : post (0, 0, 0, 1, 1, 2, 4, fa, fb, sa, sb, gA, gB, rw_ab x, rw_ab y, rw_sn x * rw_sn y, a1, a2, a3, a4, a5)) : wpX_turnUp post (0, 0, 0, 1, 1, 2, 4, fa, fb, sa, sb, gA, gB, ta, tb, ts, a1, a2, a3, a4, a5) x y := by
  unfold wpX_turnUp
  unfold rw_ab at hx hy hp
  unfold rw_sn at hp
  by_cases gx : x < 0
  · rw [if_pos gx] at hx
    rw [if_pos gx, if_pos gx] at hp
    by_cases gy : y < 0
    · rw [if_pos gy] at hy
      rw [if_pos gy, if_pos gy] at hp
      exact ⟨3, rw_tuA (i := 0) (by omega) gx (rw_tuB (by omega) hx gy (rw_tu0 (by omega) hx hy hp))⟩
    · rw [if_neg gy] at hy
      rw [if_neg gy, if_neg gy] at hp
      exact ⟨2, rw_tuA (i := 0) (by omega) gx (rw_tu0 (by omega) hx hy hp)⟩
  · rw [if_neg gx] at hx
    rw [if_neg gx, if_neg gx] at hp
    by_cases gy : y < 0
    · rw [if_pos gy] at hy
      rw [if_pos gy, if_pos gy] at hp
      exact ⟨2, rw_tuB (i := 0) (by omega) hx gy (rw_tu0 (by omega) hx hy hp)⟩
    · rw [if_neg gy] at hy
      rw [if_neg gy, if_neg gy] at hp
      exact ⟨1, rw_tu0 (i := 0) (by omega) hx hy hp⟩
theorem rw_clear {post : St2 → Prop} (hp : ∀ s : Nat → Int32, (∀ j, j < 1089 → s j = 0) → post (0, 0, 0, 1, 1, 2, 4, fa, fb, sa, sb, gA, gB, ta, tb, ts, a1, a2, a3, a4, s)) : wpX_clearContent post (0, 0, 0, 1, 1, 2, 4, fa, fb, sa, sb, gA, gB, ta, tb, ts, a1, a2, a3, a4, a5) := by
  unfold wpX_clearContent
  refine pk_loop (fun n i s => wX_clearContent_2 post 0 0 0 1 1 2 4 fa fb sa sb gA gB ta tb ts n (nI i) a1 a2 a3 a4 s) (fun i s => ∀ j, j < i → s j = (fun _ => (0 : Int32)) j) 1089 0 a5 (by omega) (fun j hj => absurd hj (by omega)) (fun n s h => ?_) (fun n i s hi h hw => ?_)
  · exact pk_le 1089 1089 (fun _ => hp s h) (fun z => absurd z (by omega))
  · exact pk_le 1089 i (fun z => absurd z (by omega)) (fun _ => ⟨pk_in i 1089 hi, nm_r (by rw [nI_clamp (by omega)]) (nm_r (nI_1 i) (hw (upd s i 0) (rw_fill (f := fun _ => (0 : Int32)) h rfl)))⟩)
theorem rw_ix (w v : Nat) : 33 * (nI (w + 1) - 1) + nI (v + 1) - 1 = nI (33 * w + v) := by
  have e : nI (33 * w + v) = 33 * nI w + nI v := by
    rw [← nI_add, ← pk_mul]
    rfl
  rw [nI_pred, e, ← nI_1 v]
  grind
theorem rw_addOne {post : St2 → Prop} {x y z : Int32} (hx : ¬ rw_ab x < 0) (hy : ¬ rw_ab y < 0) (hx' : ¬ 33 < rw_ab x) (hy' : ¬ 33 < rw_ab y)
    (h0 : (rw_ab x ≤ 0 ∨ rw_ab y ≤ 0) → post (0, 0, 0, 1, 1, 2, 4, fa, fb, sa, sb, gA, gB, rw_ab x, rw_ab y, rw_sn x * rw_sn y, a1, a2, a3, a4, a5))
    (h1 : ¬ rw_ab x ≤ 0 → ¬ rw_ab y ≤ 0 → ∃ w v : Nat, w < 33 ∧ v < 33 ∧ rw_ab x = nI (w + 1) ∧ rw_ab y = nI (v + 1) ∧ post (0, 0, 0, 1, 1, 2, 4, fa, fb, sa, sb, gA, gB, rw_ab x, rw_ab y, rw_sn x * rw_sn y, a1, a2, a3, a4, upd a5 (33 * w + v) (a5 (33 * w + v) + rw_sn x * rw_sn y * z))) : wpX_addOne post (0, 0, 0, 1, 1, 2, 4, fa, fb, sa, sb, gA, gB, ta, tb, ts, a1, a2, a3, a4, a5) x y z := by
  unfold wpX_addOne
  refine rw_turnUp hx hy ?_
  refine br_c (fun g => h0 (Or.inl g)) (fun g => br_c (fun g2 => h0 (Or.inr g2)) (fun g2 => br_f hx' (br_f hy' ?_)))
  obtain ⟨w, v, hw, hv, ew, ev, hp⟩ := h1 g g2
  have e : 33 * (rw_ab x - 1) + rw_ab y - 1 = nI (33 * w + v) := by rw [ew, ev, rw_ix]
  rw [e]
  exact ⟨pk_in (33 * w + v) 1089 (by omega), pk_in (33 * w + v) 1089 (by omega), nm_r (by rw [nI_clamp (by omega)]) hp⟩
abbrev rw_X (u c : Nat) : Int32 := 1 * (nI u - 16) + nI c + 1
theorem rw_FA1 : ∀ a, a < 4 → ∀ c, c < 4 → ∀ u, u < 33 → decide (rw_t a u = 1 → ¬ rw_ab (rw_X u c) < 0 ∧ ¬ 33 < rw_ab (rw_X u c)) = true := by decide +kernel
theorem rw_FA2 : ∀ a, a < 4 → ∀ c, c < 4 → ∀ u, u < 33 → ∀ w, w < 33 → decide (rw_t a u = 1 → rw_ab (rw_X u c) ≤ 0 → rw_k a c w u = 0) = true := by decide +kernel
theorem rw_FA3 : ∀ a, a < 4 → ∀ c, c < 4 → ∀ u, u < 33 → decide (rw_t a u = 1 → ¬ rw_ab (rw_X u c) ≤ 0 → (rw_ab (rw_X u c) - 1).toNatClampNeg < 33 ∧ rw_ab (rw_X u c) = nI ((rw_ab (rw_X u c) - 1).toNatClampNeg + 1)) = true := by decide +kernel
theorem rw_FA4 : ∀ a, a < 4 → ∀ c, c < 4 → ∀ u, u < 33 → ∀ w, w < 33 → decide (rw_t a u = 1 → ¬ rw_ab (rw_X u c) ≤ 0 → rw_k a c w u = if w = (rw_ab (rw_X u c) - 1).toNatClampNeg then rw_sn (rw_X u c) else 0) = true := by decide +kernel
theorem rw_FA (a : Nat) (ha : a < 4) (c : Nat) (hc : c < 4) (u : Nat) (hu : u < 33) (h : rw_t a u = 1) : ¬ rw_ab (rw_X u c) < 0 ∧ ¬ 33 < rw_ab (rw_X u c) ∧ (rw_ab (rw_X u c) ≤ 0 → ∀ w, w < 33 → rw_k a c w u = 0) ∧ (¬ rw_ab (rw_X u c) ≤ 0 → (rw_ab (rw_X u c) - 1).toNatClampNeg < 33 ∧ rw_ab (rw_X u c) = nI ((rw_ab (rw_X u c) - 1).toNatClampNeg + 1) ∧ ∀ w, w < 33 → rw_k a c w u = if w = (rw_ab (rw_X u c) - 1).toNatClampNeg then rw_sn (rw_X u c) else 0) := by
  have h1 := of_decide_eq_true (rw_FA1 a ha c hc u hu) h
  have h3 := of_decide_eq_true (rw_FA3 a ha c hc u hu) h
  exact ⟨h1.1, h1.2, fun g w hw => of_decide_eq_true (rw_FA2 a ha c hc u hu w hw) h g, fun g => ⟨(h3 g).1, (h3 g).2, fun w hw => of_decide_eq_true (rw_FA4 a ha c hc u hu w hw) h g⟩⟩
theorem rw_two {W V j : Nat} (hV : V < 33) {x y : Int32} : (if j / 33 = W then x else 0) * (if j % 33 = V then y else 0) = if j = 33 * W + V then x * y else 0 := by
  by_cases h1 : j / 33 = W
  · by_cases h2 : j % 33 = V
    · rw [if_pos h1, if_pos h2, if_pos (by omega)]
    · rw [if_pos h1, if_neg h2, if_neg (by omega), Int32.mul_zero]
  · rw [if_neg h1, if_neg (show ¬ j = 33 * W + V by omega), Int32.zero_mul]
/-- what is in content behind the cells below i -/
def rw_C (a b c d i j : Nat) : Int32 := rw_sg (fun q => rw_k a c (j / 33) (q / 33) * rw_k b d (j % 33) (q % 33)) i
theorem rw_Ce {a b c d : Nat} (ha : a < 4) (hb : b < 4) (hc : c < 4) (hd : d < 4) {j : Nat} (hj : j < 1089) : rw_C a b c d 1089 j = rw_K a c (j / 33) * rw_K b d (j % 33) := by
  unfold rw_C
  refine Eq.trans (rw_sg_prod (rw_k a c (j / 33)) (rw_k b d (j % 33)) 33) ?_
  rw [rw_ksum a ha c hc _ (by omega), rw_ksum b hb d hd _ (by omega)]
theorem rw_Cz {a b c d i j : Nat} {x : Int32} (h : x = rw_C a b c d i j) (hz : rw_k a c (j / 33) (i / 33) * rw_k b d (j % 33) (i % 33) = 0) : x = rw_C a b c d (i + 1) j := by
  show x = rw_C a b c d i j + rw_k a c (j / 33) (i / 33) * rw_k b d (j % 33) (i % 33)
  rw [hz, Int32.add_zero]
  exact h
theorem rw_addTurned {post : St2 → Prop} {a b c d : Nat} (ha : a < 4) (hb : b < 4) (hc : c < 4) (hd : d < 4) (h3 : ∀ j, j < 1089 → a3 j = rw_T a b j) (h5 : ∀ j, j < 1089 → a5 j = 0)
    (hp : ∀ (ta tb ts : Int32) (s : Nat → Int32), (∀ j, j < 1089 → s j = rw_K a c (j / 33) * rw_K b d (j % 33)) → post (0, 0, 0, 1, 1, 2, 4, fa, fb, sa, sb, gA, gB, ta, tb, ts, a1, a2, a3, a4, s)) : wpX_addTurned post (0, 0, 0, 1, 1, 2, 4, fa, fb, sa, sb, gA, gB, ta, tb, ts, a1, a2, a3, a4, a5) 1 (nI c) (nI d) := by
  unfold wpX_addTurned
  refine pk_loop (σ := Int32 × Int32 × Int32 × (Nat → Int32)) (fun n i s => wX_addTurned_3 post 1 (nI c) (nI d) n (nI i) 0 0 0 1 1 2 4 fa fb sa sb gA gB s.1 s.2.1 s.2.2.1 a1 a2 a3 a4 s.2.2.2) (fun i s => ∀ j, j < 1089 → s.2.2.2 j = rw_C a b c d i j) 1089 0 (ta, tb, ts, a5) (by omega) (fun j hj => h5 j hj) (fun n s h => ?_) (fun n i s hi h hw => ?_)
  · exact pk_le 1089 1089 (fun _ => hp _ _ _ _ (fun j hj => (h j hj).trans (rw_Ce ha hb hc hd hj))) (fun z => absurd z (by omega))
  · obtain ⟨ta, tb, ts, s⟩ := s
    refine pk_le 1089 i (fun z => absurd z (by omega)) (fun _ => ⟨pk_in i 1089 hi, ?_⟩)
    rw [nI_clamp (by omega), h3 i hi]
    refine br_c (fun z => nm_r (nI_1 i) (hw (ta, tb, ts, s) (fun j hj => rw_Cz (h j hj) ?_))) (fun z => ?_)
    · rcases rw_t01 a (i / 33) with e | e
      · rw [rw_k0 e, Int32.zero_mul]
      · rcases rw_t01 b (i % 33) with e2 | e2
        · rw [rw_k0 e2, Int32.mul_zero]
        · exfalso
          unfold rw_T at z
          rw [e, e2] at z
          exact absurd z (by decide)
    · obtain ⟨e1, e2⟩ := rw_p10 (rw_t01 a (i / 33)) (rw_t01 b (i % 33)) z
      have eT : rw_T a b i = 1 := by
        unfold rw_T
        rw [e1, e2]
        decide
      have A := rw_FA a ha c hc (i / 33) (by omega) e1
      have B := rw_FA b hb d hd (i % 33) (by omega) e2
      rw [eT]
      refine ⟨by decide, nm_r (e' := rw_X (i / 33) c) (by rw [show (33 : Int32) = nI 33 from rfl, pk_div (by omega) (by omega) (by omega)]) ⟨by decide, nm_r (e' := rw_X (i % 33) d) (by rw [show (33 : Int32) = nI 33 from rfl, pk_rem (by omega) (by omega) (by omega)]) ⟨pk_in i 1089 hi, ?_⟩⟩⟩
      refine rw_addOne A.1 B.1 A.2.1 B.2.1 (fun g => ?_) (fun g1 g2 => ?_)
      · refine nm_r (nI_1 i) (hw (_, _, _, s) (fun j hj => rw_Cz (h j hj) ?_))
        rcases g with g | g
        · rw [A.2.2.1 g _ (by omega), Int32.zero_mul]
        · rw [B.2.2.1 g _ (by omega), Int32.mul_zero]
      · have A' := A.2.2.2 g1
        have B' := B.2.2.2 g2
        refine ⟨_, _, A'.1, B'.1, A'.2.1, B'.2.1, nm_r (nI_1 i) (hw (_, _, _, _) (fun j hj => ?_))⟩
        show upd s _ _ j = rw_C a b c d i j + rw_k a c (j / 33) (i / 33) * rw_k b d (j % 33) (i % 33)
        rw [A'.2.2 _ (by omega), B'.2.2 _ (by omega), rw_two B'.1]
        by_cases e : j = 33 * (rw_ab (rw_X (i / 33) c) - 1).toNatClampNeg + (rw_ab (rw_X (i % 33) d) - 1).toNatClampNeg
        · rw [if_pos e, ← e, pk_us, h j hj, Int32.mul_one]
        · rw [if_neg e, pk_un e, Int32.add_zero]
          exact h j hj
theorem rw_multiply {post : St2 → Prop} {a b c d : Nat} (ha : a < 4) (hb : b < 4) (hc : c < 4) (hd : d < 4) (h3 : ∀ j, j < 1089 → a3 j = rw_T a b j)
    (hp : ∀ (ta tb ts : Int32) (s : Nat → Int32), (∀ j, j < 1089 → s j = rw_K a c (j / 33) * rw_K b d (j % 33)) → post (0, 0, 0, 1, 1, 2, 4, fa, fb, nI c, nI d, gA, gB, ta, tb, ts, a1, a2, a3, a4, s)) : wpX_multiply post (0, 0, 0, 1, 1, 2, 4, fa, fb, nI c, nI d, gA, gB, ta, tb, ts, a1, a2, a3, a4, a5) := by
  unfold wpX_multiply
  refine rw_clear (fun s hs => ?_)
  exact rw_addTurned ha hb hc hd h3 hs hp
end
end
section
section
variable {fa fb sa sb gA gB ta tb ts : Int32} {a1 a2 a3 a4 a5 : Nat → Int32}
abbrev rw_far (x y : Int32) : Prop := x < (-40) ∨ 40 < x ∨ y < (-40) ∨ ¬ y ≤ 40
theorem rw_isFar {post : Int32 → Prop} {u : St0} {x y : Int32} (h1 : rw_far x y → post 1) (h0 : ¬ rw_far x y → post 0) : wpX_isFar post u x y :=
  br_c (fun h => h1 (Or.inl h)) (fun g1 => br_c (fun h => h1 (Or.inr (Or.inl h))) (fun g2 => br_c (fun h => h1 (Or.inr (Or.inr (Or.inl h)))) (fun g3 => br_c (fun h => h0 (fun t => t.elim g1 (fun t => t.elim g2 (fun t => t.elim g3 (fun t => t h))))) (fun g4 => h1 (Or.inr (Or.inr (Or.inr g4)))))))
theorem rw_nf {x y : Int32} (f : ¬ rw_far x y) : ∃ i j : Nat, i < 81 ∧ j < 81 ∧ x = nI i - 40 ∧ y = nI j - 40 := by
  obtain ⟨i, hi, ei⟩ := rw_f1 (x := x) (fun t => f (Or.inl t)) (fun t => f (Or.inr (Or.inl t)))
  have g : ¬ 40 < y := by
    intro t
    apply f
    refine Or.inr (Or.inr (Or.inr ?_))
    rw [Int32.le_iff_toInt_le]
    rw [Int32.lt_iff_toInt_lt] at t
    omega
  obtain ⟨j, hj, ej⟩ := rw_f1 (x := y) (fun t => f (Or.inr (Or.inr (Or.inl t)))) g
  exact ⟨i, j, hi, hj, ei, ej⟩
/-! what the law says of number, a side at a time -/
def rw_in (x a : Int32) : Int32 := if x < -a ∨ a < x ∨ ¬ ((x ^^^ a) &&& 1) = 0 then 0 else 1
theorem rw_FN1 : ∀ i, i < 33 → ∀ a, a < 4 → rw_in (nI i - 16) (nI a) = rw_t a i := by decide +kernel
theorem rw_FN2 : ∀ k, k < 81 → ∀ a, a < 4 → decide ((nI k - 40 < (-16) ∨ 16 < nI k - 40) → rw_in (nI k - 40) (nI a) = 0) = true := by decide +kernel
theorem rw_number {post : Int32 → Prop} {x y : Int32} {a b : Nat} (ha : a < 4) (hb : b < 4) (h3 : ∀ j, j < 1089 → a3 j = rw_T a b j) (hp : ∀ r : Int32, (rw_far x y → r = -1) → (¬ rw_far x y → r = rw_in x (nI a) * rw_in y (nI b)) → post r) : wpX_number post (0, 0, 0, 1, 1, 2, 4, fa, fb, sa, sb, gA, gB, ta, tb, ts, a1, a2, a3, a4, a5) x y := by
  unfold wpX_number
  refine rw_isFar (fun f => br_f (by decide) (hp _ (fun _ => rfl) (fun n => absurd f n))) (fun f => br_t rfl ?_)
  obtain ⟨i, j, hi, hj, ei, ej⟩ := rw_nf f
  refine rw_isNear (fun h => ?_) (fun h => ?_)
  · obtain ⟨u, v, hu, hv, eu, ev, e⟩ := rw_nrc h
    refine br_f (by decide) (rw_cellw e ⟨pk_in (33 * u + v) 1089 (by omega), ?_⟩)
    rw [nI_clamp (by omega), h3 _ (by omega)]
    refine hp _ (fun g => absurd g f) (fun _ => ?_)
    unfold rw_T
    rw [show (33 * u + v) / 33 = u by omega, show (33 * u + v) % 33 = v by omega, eu, ev, rw_FN1 u hu a ha, rw_FN1 v hv b hb]
  · refine br_t rfl (hp _ (fun g => absurd g f) (fun _ => ?_))
    by_cases g : x < (-16) ∨ 16 < x
    · rw [ei] at g
      rw [ei, of_decide_eq_true (rw_FN2 i hi a ha) g, Int32.zero_mul]
    · by_cases g2 : y < (-16) ∨ 16 < y
      · rw [ej] at g2
        rw [ej, of_decide_eq_true (rw_FN2 j hj b hb) g2, Int32.mul_zero]
      · exact absurd ⟨fun t => g (Or.inl t), fun t => g (Or.inr t), fun t => g2 (Or.inl t), fun t => g2 (Or.inr t)⟩ h
/-! what the law says of product, a side at a time -/
def rw_la (a c : Nat) : Int32 := if nI c ≤ nI a then nI a - nI c else nI c - nI a
def rw_of (x : Int32) (a c : Nat) : Int32 := if x < rw_la a c ∨ nI a + nI c < x ∨ ¬ ((x ^^^ rw_la a c) &&& 1) = 0 then 0 else 1
theorem rw_FO1 : ∀ i, i < 33 → ∀ a, a < 4 → ∀ c, c < 4 → rw_of (nI i) a c = rw_K a c i := by decide +kernel
theorem rw_FO2 : ∀ k, k < 81 → ∀ a, a < 4 → ∀ c, c < 4 → decide ((nI k - 40 < 0 ∨ 33 ≤ nI k - 40) → rw_of (nI k - 40) a c = 0) = true := by decide +kernel
theorem rw_contained {post : Int32 → Prop} {x y : Int32} {a b c d : Nat} (ha : a < 4) (hb : b < 4) (hc : c < 4) (hd : d < 4) (f : ¬ rw_far x y) (h5 : ∀ j, j < 1089 → a5 j = rw_K a c (j / 33) * rw_K b d (j % 33)) (hp : post (rw_of x a c * rw_of y b d)) : wpX_contained post (0, 0, 0, 1, 1, 2, 4, fa, fb, sa, sb, gA, gB, ta, tb, ts, a1, a2, a3, a4, a5) x y := by
  obtain ⟨i, j, hi, hj, ei, ej⟩ := rw_nf f
  have zx : (x < 0 ∨ 33 ≤ x) → post 0 := by
    intro g
    have z : rw_of x a c = 0 := by
      rw [ei] at g
      rw [ei]
      exact of_decide_eq_true (rw_FO2 i hi a ha c hc) g
    rw [z, Int32.zero_mul] at hp
    exact hp
  have zy : (y < 0 ∨ 33 ≤ y) → post 0 := by
    intro g
    have z : rw_of y b d = 0 := by
      rw [ej] at g
      rw [ej]
      exact of_decide_eq_true (rw_FO2 j hj b hb d hd) g
    rw [z, Int32.mul_zero] at hp
    exact hp
  unfold wpX_contained
  refine br_c (fun g => zx (Or.inl g)) (fun g1 => br_c (fun g => zx (Or.inr g)) (fun g2 => br_c (fun g => zy (Or.inl g)) (fun g3 => br_c (fun g => zy (Or.inr g)) (fun g4 => ?_))))
  obtain ⟨u, hu, eu⟩ : ∃ u : Nat, u < 33 ∧ x = nI u := ((pk_ix x (n := 33) (by omega)).resolve_left g1).resolve_left g2
  obtain ⟨v, hv, ev⟩ : ∃ v : Nat, v < 33 ∧ y = nI v := ((pk_ix y (n := 33) (by omega)).resolve_left g3).resolve_left g4
  have e : 33 * x + y = nI (33 * u + v) := by
    rw [eu, ev, show (33 : Int32) = nI 33 from rfl, pk_mul, nI_add]
  rw [e, nI_clamp (by omega), h5 _ (by omega), show (33 * u + v) / 33 = u by omega, show (33 * u + v) % 33 = v by omega, ← rw_FO1 u hu a ha c hc, ← rw_FO1 v hv b hb d hd, ← eu, ← ev]
  exact ⟨pk_in (33 * u + v) 1089 (by omega), hp⟩
theorem rw_product {post : Int32 → St2 → Prop} {x y : Int32} {a b c d : Nat} (ha : a < 4) (hb : b < 4) (hc : c < 4) (hd : d < 4) (h3 : ∀ j, j < 1089 → a3 j = rw_T a b j)
    (hp : ∀ (r ta tb ts : Int32) (s : Nat → Int32), (rw_far x y → r = -1) → (¬ rw_far x y → r = rw_of x a c * rw_of y b d) → post r (0, 0, 0, 1, 1, 2, 4, fa, fb, nI c, nI d, gA, gB, ta, tb, ts, a1, a2, a3, a4, s)) : wpX_product post (0, 0, 0, 1, 1, 2, 4, fa, fb, nI c, nI d, gA, gB, ta, tb, ts, a1, a2, a3, a4, a5) x y := by
  unfold wpX_product
  refine rw_isFar (fun f => br_f (by decide) (hp _ _ _ _ _ (fun _ => rfl) (fun n => absurd f n))) (fun f => br_t rfl ?_)
  refine rw_multiply ha hb hc hd h3 (fun ta tb ts s hs => ?_)
  exact rw_contained ha hb hc hd f hs (hp _ _ _ _ _ (fun g => absurd g f) (fun _ => rfl))
theorem rw_kinds {post : Int32 → St2 → Prop} {a b c d : Nat} (ha : a < 4) (hb : b < 4) (hc : c < 4) (hd : d < 4) (h3 : ∀ j, j < 1089 → a3 j = rw_T a b j)
    (hp : ∀ (ta tb ts : Int32) (s : Nat → Int32), post (nI (min a c + 1) * nI (min b d + 1)) (0, 0, 0, 1, 1, 2, 4, fa, fb, nI c, nI d, gA, gB, ta, tb, ts, a1, a2, a3, a4, s)) : wpX_kinds post (0, 0, 0, 1, 1, 2, 4, fa, fb, nI c, nI d, gA, gB, ta, tb, ts, a1, a2, a3, a4, a5) := by
  unfold wpX_kinds
  refine rw_multiply ha hb hc hd h3 (fun ta tb ts s hs => ?_)
  have g := hp ta tb ts s
  rw [← rw_cntK ha hb hc hd hs] at g
  refine pk_loop (fun n i r => wX_kinds_8 post 0 0 0 1 1 2 4 fa fb (nI c) (nI d) gA gB ta tb ts a1 a2 a3 a4 s n r (nI i)) (fun i r => r = rw_cnt s i) 1089 0 0 (by omega) rfl (fun n r h => ?_) (fun n i r hi h hw => ?_)
  · have h' : r = rw_cnt s 1089 := h
    subst h'
    exact pk_le 1089 1089 (fun _ => g) (fun z => absurd z (by omega))
  · have h' : r = rw_cnt s i := h
    subst h'
    refine pk_le 1089 i (fun z => absurd z (by omega)) (fun _ => ⟨pk_in i 1089 hi, ?_⟩)
    rw [nI_clamp (by omega)]
    refine br_c (fun z => nm_e (nm_r (nI_1 i) (hw _ ?_))) (fun z => nm_e (nm_r (nI_1 i) (hw _ ?_)))
    · show rw_cnt s i + 0 = rw_cnt s i + (if s i = 0 then 0 else 1)
      rw [if_pos z]
    · show rw_cnt s i + 1 = rw_cnt s i + (if s i = 0 then 0 else 1)
      rw [if_neg z]
theorem rw_FB1 : ∀ k, k < 81 → ¬ rw_ab (nI k - 40) < 0 := by decide +kernel
theorem rw_FB2 : ∀ k, k < 81 → decide (rw_ab (nI k - 40) = 0 ↔ nI k - 40 = 0) = true := by decide +kernel
theorem rw_orbit {post : Int32 → St2 → Prop} {x y : Int32} (hp : ∀ r ta tb ts : Int32, (rw_far x y → r = -1) → (¬ rw_far x y → r = rw_o x * rw_o y) → post r (0, 0, 0, 1, 1, 2, 4, fa, fb, sa, sb, gA, gB, ta, tb, ts, a1, a2, a3, a4, a5)) : wpX_orbit post (0, 0, 0, 1, 1, 2, 4, fa, fb, sa, sb, gA, gB, ta, tb, ts, a1, a2, a3, a4, a5) x y := by
  unfold wpX_orbit
  refine rw_isFar (fun f => br_f (by decide) (hp _ _ _ _ (fun _ => rfl) (fun n => absurd f n))) (fun f => br_t rfl ?_)
  obtain ⟨i, j, hi, hj, ei, ej⟩ := rw_nf f
  have ax : ¬ rw_ab x < 0 := by
    rw [ei]
    exact rw_FB1 i hi
  have ay : ¬ rw_ab y < 0 := by
    rw [ej]
    exact rw_FB1 j hj
  have zx : rw_ab x = 0 ↔ x = 0 := by
    rw [ei]
    exact of_decide_eq_true (rw_FB2 i hi)
  have zy : rw_ab y = 0 ↔ y = 0 := by
    rw [ej]
    exact of_decide_eq_true (rw_FB2 j hj)
  refine rw_turnUp ax ay ?_
  refine br_c (fun g1 => br_c (fun g2 => hp _ _ _ _ (fun g => absurd g f) (fun _ => ?_)) (fun g2 => br_t g1 ⟨by decide, hp _ _ _ _ (fun g => absurd g f) (fun _ => ?_)⟩)) (fun g1 => br_f g1 (br_c (fun g2 => ⟨by decide, hp _ _ _ _ (fun g => absurd g f) (fun _ => ?_)⟩) (fun g2 => hp _ _ _ _ (fun g => absurd g f) (fun _ => ?_))))
  · unfold rw_o
    rw [if_pos (zx.mp g1), if_pos (zy.mp g2)]
    decide
  · unfold rw_o
    rw [if_pos (zx.mp g1), if_neg (fun t => g2 (zy.mpr t))]
    decide
  · unfold rw_o
    rw [if_neg (fun t => g1 (zx.mpr t)), if_pos (zy.mp g2)]
    decide
  · unfold rw_o
    rw [if_neg (fun t => g1 (zx.mpr t)), if_neg (fun t => g2 (zy.mpr t))]
    decide
theorem rw_high {post : Int32 → St2 → Prop} {x y : Int32} (hp : ∀ r ta tb ts : Int32, (rw_far x y → r = -1) → (¬ rw_far x y → r = 1000 * rw_ab x + rw_ab y) → post r (0, 0, 0, 1, 1, 2, 4, fa, fb, sa, sb, gA, gB, ta, tb, ts, a1, a2, a3, a4, a5)) : wpX_high post (0, 0, 0, 1, 1, 2, 4, fa, fb, sa, sb, gA, gB, ta, tb, ts, a1, a2, a3, a4, a5) x y := by
  unfold wpX_high
  refine rw_isFar (fun f => br_f (by decide) (hp _ _ _ _ (fun _ => rfl) (fun n => absurd f n))) (fun f => br_t rfl ?_)
  obtain ⟨i, j, hi, hj, ei, ej⟩ := rw_nf f
  have ax : ¬ rw_ab x < 0 := by
    rw [ei]
    exact rw_FB1 i hi
  have ay : ¬ rw_ab y < 0 := by
    rw [ej]
    exact rw_FB1 j hj
  exact rw_turnUp ax ay (hp _ _ _ _ (fun g => absurd g f) (fun _ => rfl))
end
end
section
section
variable {fa fb sa sb gA gB ta tb ts : Int32} {a1 a2 a3 a4 a5 : Nat → Int32}
variable {post : Int32 → St0 → Prop} {mc ms kc ks : Nat} {x y fl x16 x17 x18 z0 z1 : Int32} {a b c d : Nat}
/-- the law's own flag -/
def rw_fl (fl x y : Int32) : Prop := (fl = 0 ∧ ¬ rw_far x y) ∨ (fl = 1 ∧ rw_far x y)
theorem rw_abc (x : Int32) : (0 ≤ x ∧ rw_ab x = x) ∨ (¬ 0 ≤ x ∧ rw_ab x = -x) := by
  by_cases h : x < 0
  · exact Or.inr ⟨rw_nle h, if_pos h⟩
  · exact Or.inl ⟨rw_le h, if_neg h⟩
theorem rw_465 (ha : a < 4) (hb : b < 4) (hc : c < 4) (hd : d < 4) (h3 : ∀ j, j < 1089 → a3 j = rw_T a b j) (hfl : rw_fl fl x y) (hk : nI (min a c + 1) * nI (min b d + 1) = x16 * x17)
    (h18 : rw_far x y → x18 = -1) (g18 : ¬ rw_far x y → x18 = rw_o x * rw_o y) (hz : z1 + z0 = 1000 * rw_ab x + rw_ab y) (hp : post 1 ()) : wL_lawOf_465 post mc ms x y fl x16 x17 x18 z0 z1 kc ks 0 0 0 1 1 2 4 fa fb (nI c) (nI d) gA gB ta tb ts a1 a2 a3 a4 a5 := by
  unfold wL_lawOf_465
  refine nm_r hz ?_
  refine rw_kinds ha hb hc hd h3 (fun ta tb ts s => ?_)
  refine br_t hk ?_
  refine rw_orbit (fun r ta tb ts r1 r2 => ?_)
  refine br_t ?_ ?_
  · rcases hfl with ⟨_, f⟩ | ⟨_, f⟩
    · rw [r2 f, g18 f]
    · rw [r1 f, h18 f]
  refine rw_high (fun r' ta tb ts q1 q2 => ?_)
  rcases hfl with ⟨e, f⟩ | ⟨e, f⟩
  · refine br_t e ?_
    unfold wL_lawOf_515
    exact br_t (q2 f) hp
  · refine br_f (by rw [e]; decide) ?_
    unfold wL_lawOf_515
    exact br_t (q1 f) hp
theorem rw_433 (ha : a < 4) (hb : b < 4) (hc : c < 4) (hd : d < 4) (h3 : ∀ j, j < 1089 → a3 j = rw_T a b j) (hfl : rw_fl fl x y) (hk : nI (min a c + 1) * nI (min b d + 1) = x16 * x17)
    (h18 : rw_far x y → x18 = -1) (g18 : ¬ rw_far x y → x18 = rw_o x * rw_o y) (hp : post 1 ()) : wL_lawOf_433 post mc ms x y fl x16 x17 x18 kc ks 0 0 0 1 1 2 4 fa fb (nI c) (nI d) gA gB ta tb ts a1 a2 a3 a4 a5 := by
  have main : wL_lawOf_451 post mc ms x y fl x16 x17 x18 (rw_ab x) 1000 kc ks 0 0 0 1 1 2 4 fa fb (nI c) (nI d) gA gB ta tb ts a1 a2 a3 a4 a5 := by
    have m2 : wL_lawOf_465 post mc ms x y fl x16 x17 x18 (rw_ab y) (1000 * rw_ab x) kc ks 0 0 0 1 1 2 4 fa fb (nI c) (nI d) gA gB ta tb ts a1 a2 a3 a4 a5 := rw_465 ha hb hc hd h3 hfl hk h18 g18 rfl hp
    unfold wL_lawOf_451
    rcases rw_abc y with ⟨g, e⟩ | ⟨g, e⟩
    · rw [e] at m2
      exact br_t g m2
    · rw [e] at m2
      exact br_f g m2
  unfold wL_lawOf_433
  rcases rw_abc x with ⟨g, e⟩ | ⟨g, e⟩
  · rw [e] at main
    exact br_t g main
  · rw [e] at main
    exact br_f g main
theorem rw_401 (ha : a < 4) (hb : b < 4) (hc : c < 4) (hd : d < 4) (h3 : ∀ j, j < 1089 → a3 j = rw_T a b j) (hfl : rw_fl fl x y) (hk : nI (min a c + 1) * nI (min b d + 1) = x16 * x17) (hp : post 1 ()) : wL_lawOf_401 post mc ms x y fl x16 x17 kc ks 0 0 0 1 1 2 4 fa fb (nI c) (nI d) gA gB ta tb ts a1 a2 a3 a4 a5 := by
  unfold wL_lawOf_401
  rcases hfl with ⟨e, f⟩ | ⟨e, f⟩
  · refine br_t e ?_
    have m : wL_lawOf_422 post mc ms x y fl x16 x17 (rw_o x) kc ks 0 0 0 1 1 2 4 fa fb (nI c) (nI d) gA gB ta tb ts a1 a2 a3 a4 a5 := by
      have m2 : wL_lawOf_432 post mc ms x y fl x16 x17 (rw_o y) (rw_o x) kc ks 0 0 0 1 1 2 4 fa fb (nI c) (nI d) gA gB ta tb ts a1 a2 a3 a4 a5 := by
        unfold wL_lawOf_432
        exact rw_433 ha hb hc hd h3 (Or.inl ⟨e, f⟩) hk (fun g => absurd g f) (fun _ => rfl) hp
      unfold wL_lawOf_422
      by_cases g : y = 0
      · rw [show rw_o y = 1 from if_pos g] at m2
        exact br_t g m2
      · rw [show rw_o y = 2 from if_neg g] at m2
        exact br_f g m2
    by_cases g : x = 0
    · rw [show rw_o x = 1 from if_pos g] at m
      exact br_t g m
    · rw [show rw_o x = 2 from if_neg g] at m
      exact br_f g m
  · refine br_f (by rw [e]; decide) ?_
    exact rw_433 ha hb hc hd h3 (Or.inr ⟨e, f⟩) hk (fun _ => rfl) (fun g => absurd f g) hp
theorem rw_358 (ha : a < 4) (hb : b < 4) (hc : c < 4) (hd : d < 4) (h3 : ∀ j, j < 1089 → a3 j = rw_T a b j) (hfl : rw_fl fl x y) (hz : z1 = z0) (hp : post 1 ()) : wL_lawOf_358 post mc ms x y (nI a) (nI b) (nI c) (nI d) fl z0 z1 kc ks 0 0 0 1 1 2 4 fa fb (nI c) (nI d) gA gB ta tb ts a1 a2 a3 a4 a5 := by
  have m381 : wL_lawOf_381 post mc ms x y (nI b) (nI d) fl (nI (min a c + 1)) kc ks 0 0 0 1 1 2 4 fa fb (nI c) (nI d) gA gB ta tb ts a1 a2 a3 a4 a5 := by
    have m : wL_lawOf_401 post mc ms x y fl (nI (min a c + 1)) (nI (min b d + 1)) kc ks 0 0 0 1 1 2 4 fa fb (nI c) (nI d) gA gB ta tb ts a1 a2 a3 a4 a5 := rw_401 ha hb hc hd h3 hfl rfl hp
    unfold wL_lawOf_381
    refine pk_le d b (fun z => ?_) (fun z => ?_)
    · rw [show min b d = d by omega, ← nI_1 d] at m
      exact m
    · rw [show min b d = b by omega, ← nI_1 b] at m
      exact m
  unfold wL_lawOf_358
  refine br_t hz ?_
  refine pk_le c a (fun z => ?_) (fun z => ?_)
  · rw [show min a c = c by omega, ← nI_1 c] at m381
    exact m381
  · rw [show min a c = a by omega, ← nI_1 a] at m381
    exact m381
theorem rw_of01 (x : Int32) (a c : Nat) : rw_of x a c = 0 ∨ rw_of x a c = 1 := by
  unfold rw_of
  split
  · exact Or.inl rfl
  · exact Or.inr rfl
theorem rw_in01 (x a : Int32) : rw_in x a = 0 ∨ rw_in x a = 1 := by
  unfold rw_in
  split
  · exact Or.inl rfl
  · exact Or.inr rfl
theorem rw_328 (ha : a < 4) (hb : b < 4) (hc : c < 4) (hd : d < 4) (h3 : ∀ j, j < 1089 → a3 j = rw_T a b j) (hfl : rw_fl fl x y) (hz : z0 = rw_of x a c * rw_of y b d) (hp : post 1 ()) : wL_lawOf_328 post mc ms x y (nI a) (nI b) (nI c) (nI d) fl z0 kc ks 0 0 0 1 1 2 4 fa fb (nI c) (nI d) gA gB ta tb ts a1 a2 a3 a4 a5 := by
  unfold wL_lawOf_328
  refine rw_product ha hb hc hd h3 (fun r ta tb ts s r1 r2 => ?_)
  rcases hfl with ⟨e, f⟩ | ⟨e, f⟩
  · refine br_t e ?_
    have h01 : z0 = 0 ∨ z0 = 1 := by
      rw [hz]
      exact rw_p01 (rw_of01 x a c) (rw_of01 y b d)
    have er : r = z0 := (r2 f).trans hz.symm
    rcases h01 with g | g
    · exact br_t g (rw_358 ha hb hc hd h3 (Or.inl ⟨e, f⟩) (er.trans g) hp)
    · exact br_f (by rw [g]; decide) (rw_358 ha hb hc hd h3 (Or.inl ⟨e, f⟩) (er.trans g) hp)
  · exact br_f (by rw [e]; decide) (rw_358 ha hb hc hd h3 (Or.inr ⟨e, f⟩) (r1 f) hp)
theorem rw_267 (ha : a < 4) (hb : b < 4) (hc : c < 4) (hd : d < 4) (h3 : ∀ j, j < 1089 → a3 j = rw_T a b j) (hfl : rw_fl fl x y) (hp : post 1 ()) : wL_lawOf_267 post mc ms x y (nI a) (nI b) (nI c) (nI d) fl (rw_la a c) (rw_la b d) kc ks 0 0 0 1 1 2 4 fa fb (nI c) (nI d) gA gB ta tb ts a1 a2 a3 a4 a5 := by
  have m0 : rw_of x a c * rw_of y b d = 0 → wL_lawOf_327 post mc ms x y (nI a) (nI b) (nI c) (nI d) fl kc ks 0 0 0 1 1 2 4 fa fb (nI c) (nI d) gA gB ta tb ts a1 a2 a3 a4 a5 := by
    intro h
    unfold wL_lawOf_327
    exact rw_328 ha hb hc hd h3 hfl h.symm hp
  have m1 : rw_of x a c * rw_of y b d = 1 → wL_lawOf_328 post mc ms x y (nI a) (nI b) (nI c) (nI d) fl 1 kc ks 0 0 0 1 1 2 4 fa fb (nI c) (nI d) gA gB ta tb ts a1 a2 a3 a4 a5 := by
    intro h
    exact rw_328 ha hb hc hd h3 hfl h.symm hp
  have ox : (x < rw_la a c ∨ nI a + nI c < x ∨ ¬ ((x ^^^ rw_la a c) &&& 1) = 0) → wL_lawOf_327 post mc ms x y (nI a) (nI b) (nI c) (nI d) fl kc ks 0 0 0 1 1 2 4 fa fb (nI c) (nI d) gA gB ta tb ts a1 a2 a3 a4 a5 := by
    intro h
    refine m0 ?_
    rw [show rw_of x a c = 0 from if_pos h, Int32.zero_mul]
  have oy : (y < rw_la b d ∨ nI b + nI d < y ∨ ¬ ((y ^^^ rw_la b d) &&& 1) = 0) → wL_lawOf_327 post mc ms x y (nI a) (nI b) (nI c) (nI d) fl kc ks 0 0 0 1 1 2 4 fa fb (nI c) (nI d) gA gB ta tb ts a1 a2 a3 a4 a5 := by
    intro h
    refine m0 ?_
    rw [show rw_of y b d = 0 from if_pos h, Int32.mul_zero]
  unfold wL_lawOf_267
  refine br_c (fun g => ox (Or.inl g)) (fun g1 => br_c (fun g => ox (Or.inr (Or.inl g))) (fun g2 => br_c (fun g3 => br_c (fun g => oy (Or.inl g)) (fun g4 => br_c (fun g => oy (Or.inr (Or.inl g))) (fun g5 => br_c (fun g6 => m1 ?_) (fun g6 => oy (Or.inr (Or.inr g6)))))) (fun g3 => ox (Or.inr (Or.inr g3)))))
  have n1 : ¬ (x < rw_la a c ∨ nI a + nI c < x ∨ ¬ ((x ^^^ rw_la a c) &&& 1) = 0) := fun t => t.elim g1 (fun t => t.elim g2 (fun t => t g3))
  have n2 : ¬ (y < rw_la b d ∨ nI b + nI d < y ∨ ¬ ((y ^^^ rw_la b d) &&& 1) = 0) := fun t => t.elim g4 (fun t => t.elim g5 (fun t => t g6))
  rw [show rw_of x a c = 1 from if_neg n1, show rw_of y b d = 1 from if_neg n2]
  decide
theorem rw_220 (ha : a < 4) (hb : b < 4) (hc : c < 4) (hd : d < 4) (h3 : ∀ j, j < 1089 → a3 j = rw_T a b j) (hfl : rw_fl fl x y) (hz : z1 = z0) (hp : post 1 ()) : wL_lawOf_220 post mc ms x y (nI a) (nI b) (nI c) (nI d) fl z0 z1 kc ks 0 0 0 1 1 2 4 fa fb (nI c) (nI d) gA gB ta tb ts a1 a2 a3 a4 a5 := by
  have m : wL_lawOf_245 post mc ms x y (nI a) (nI b) (nI c) (nI d) fl (rw_la a c) kc ks 0 0 0 1 1 2 4 fa fb (nI c) (nI d) gA gB ta tb ts a1 a2 a3 a4 a5 := by
    have m2 : wL_lawOf_267 post mc ms x y (nI a) (nI b) (nI c) (nI d) fl (rw_la a c) (rw_la b d) kc ks 0 0 0 1 1 2 4 fa fb (nI c) (nI d) gA gB ta tb ts a1 a2 a3 a4 a5 := rw_267 ha hb hc hd h3 hfl hp
    unfold wL_lawOf_245
    by_cases g : nI d ≤ nI b
    · rw [show rw_la b d = nI b - nI d from if_pos g] at m2
      exact br_t g m2
    · rw [show rw_la b d = nI d - nI b from if_neg g] at m2
      exact br_f g m2
  unfold wL_lawOf_220
  refine br_t hz ?_
  by_cases g : nI c ≤ nI a
  · rw [show rw_la a c = nI a - nI c from if_pos g] at m
    exact br_t g m
  · rw [show rw_la a c = nI c - nI a from if_neg g] at m
    exact br_f g m
theorem rw_190 (ha : a < 4) (hb : b < 4) (hc : c < 4) (hd : d < 4) (h3 : ∀ j, j < 1089 → a3 j = rw_T a b j) (hfl : rw_fl fl x y) (hz : z0 = rw_in x (nI a) * rw_in y (nI b)) (hp : post 1 ()) : wL_lawOf_190 post mc ms x y (nI a) (nI b) (nI c) (nI d) fl z0 kc ks 0 0 0 1 1 2 4 fa fb (nI c) (nI d) gA gB ta tb ts a1 a2 a3 a4 a5 := by
  unfold wL_lawOf_190
  refine rw_number ha hb h3 (fun r r1 r2 => ?_)
  rcases hfl with ⟨e, f⟩ | ⟨e, f⟩
  · refine br_t e ?_
    have h01 : z0 = 0 ∨ z0 = 1 := by
      rw [hz]
      exact rw_p01 (rw_in01 x (nI a)) (rw_in01 y (nI b))
    have er : r = z0 := (r2 f).trans hz.symm
    rcases h01 with g | g
    · exact br_t g (rw_220 ha hb hc hd h3 (Or.inl ⟨e, f⟩) (er.trans g) hp)
    · exact br_f (by rw [g]; decide) (rw_220 ha hb hc hd h3 (Or.inl ⟨e, f⟩) (er.trans g) hp)
  · exact br_f (by rw [e]; decide) (rw_220 ha hb hc hd h3 (Or.inr ⟨e, f⟩) (r1 f) hp)
theorem rw_133 (ha : a < 4) (hb : b < 4) (hc : c < 4) (hd : d < 4) (h3 : ∀ j, j < 1089 → a3 j = rw_T a b j) (hfl : rw_fl fl x y) (hp : post 1 ()) : wL_lawOf_133 post mc ms x y (nI a) (nI b) (nI c) (nI d) fl kc ks 0 0 0 1 1 2 4 fa fb (nI c) (nI d) gA gB ta tb ts a1 a2 a3 a4 a5 := by
  have m0 : rw_in x (nI a) * rw_in y (nI b) = 0 → wL_lawOf_189 post mc ms x y (nI a) (nI b) (nI c) (nI d) fl kc ks 0 0 0 1 1 2 4 fa fb (nI c) (nI d) gA gB ta tb ts a1 a2 a3 a4 a5 := by
    intro h
    unfold wL_lawOf_189
    exact rw_190 ha hb hc hd h3 hfl h.symm hp
  have ox : (x < -nI a ∨ nI a < x ∨ ¬ ((x ^^^ nI a) &&& 1) = 0) → wL_lawOf_189 post mc ms x y (nI a) (nI b) (nI c) (nI d) fl kc ks 0 0 0 1 1 2 4 fa fb (nI c) (nI d) gA gB ta tb ts a1 a2 a3 a4 a5 := by
    intro h
    refine m0 ?_
    rw [show rw_in x (nI a) = 0 from if_pos h, Int32.zero_mul]
  have oy : (y < -nI b ∨ nI b < y ∨ ¬ ((y ^^^ nI b) &&& 1) = 0) → wL_lawOf_189 post mc ms x y (nI a) (nI b) (nI c) (nI d) fl kc ks 0 0 0 1 1 2 4 fa fb (nI c) (nI d) gA gB ta tb ts a1 a2 a3 a4 a5 := by
    intro h
    refine m0 ?_
    rw [show rw_in y (nI b) = 0 from if_pos h, Int32.mul_zero]
  unfold wL_lawOf_133
  refine br_c (fun g => ox (Or.inl g)) (fun g1 => br_c (fun g => ox (Or.inr (Or.inl g))) (fun g2 => br_c (fun g => oy (Or.inl g)) (fun g3 => br_c (fun g => oy (Or.inr (Or.inl g))) (fun g4 => br_c (fun g5 => br_c (fun g6 => rw_190 ha hb hc hd h3 hfl ?_ hp) (fun g6 => oy (Or.inr (Or.inr g6)))) (fun g5 => ox (Or.inr (Or.inr g5)))))))
  have n1 : ¬ (x < -nI a ∨ nI a < x ∨ ¬ ((x ^^^ nI a) &&& 1) = 0) := fun t => t.elim g1 (fun t => t.elim g2 (fun t => t g5))
  have n2 : ¬ (y < -nI b ∨ nI b < y ∨ ¬ ((y ^^^ nI b) &&& 1) = 0) := fun t => t.elim g3 (fun t => t.elim g4 (fun t => t g6))
  rw [show rw_in x (nI a) = 1 from if_neg n1, show rw_in y (nI b) = 1 from if_neg n2]
  decide
theorem rw_128 (ha : a < 4) (hb : b < 4) (hc : c < 4) (hd : d < 4) (h3 : ∀ j, j < 1089 → a3 j = rw_T a b j) (f : rw_far x y) (hp : post 1 ()) : wL_lawOf_128 post mc ms x y (nI a) (nI b) (nI c) (nI d) kc ks 0 0 0 1 1 2 4 fa fb (nI c) (nI d) gA gB ta tb ts a1 a2 a3 a4 a5 := by
  unfold wL_lawOf_128
  exact rw_133 ha hb hc hd h3 (Or.inr ⟨rfl, f⟩) hp
end
end
section
theorem rw_lawOf {post : Int32 → St0 → Prop} {p0 p1 p2 p3 x y : Int32} (hp : post 1 ()) : wpL_lawOf post 6 3336 () p0 p1 p2 p3 x y := by
  obtain ⟨a, ha, ea⟩ := pk_andE p0 (m := 3) 2 (by decide)
  obtain ⟨b, hb, eb⟩ := pk_andE p1 (m := 3) 2 (by decide)
  obtain ⟨c, hc, ec⟩ := pk_andE p2 (m := 3) 2 (by decide)
  obtain ⟨d, hd, ed⟩ := pk_andE p3 (m := 3) 2 (by decide)
  unfold wpL_lawOf
  refine ⟨by omega, by omega, 5, 3315, by omega, by omega, ?_⟩
  refine rw_init (by omega) (by omega) (fun fa fb sa sb gA gB ta tb ts a1 a2 a3 a4 a5 k => ?_)
  refine nm_r ea (nm_r eb (nm_r ec (nm_r ed ?_)))
  refine rw_first ha hb k (fun s t h3 => ?_)
  refine br_t rfl ?_
  refine rw_second hc hd k (fun s' => ?_)
  refine br_t rfl ?_
  refine rw_size ha hb k ?_
  refine br_t rfl ?_
  refine rw_most ha hb h3 ?_
  refine br_t rfl ?_
  refine br_c (fun g => rw_128 ha hb hc hd h3 (Or.inl g) hp) (fun g1 => br_c (fun g => rw_128 ha hb hc hd h3 (Or.inr (Or.inl g)) hp) (fun g2 => br_c (fun g => rw_128 ha hb hc hd h3 (Or.inr (Or.inr (Or.inl g))) hp) (fun g3 => br_c (fun g4 => ?_) (fun g => rw_128 ha hb hc hd h3 (Or.inr (Or.inr (Or.inr g))) hp))))
  exact rw_133 ha hb hc hd h3 (Or.inl ⟨rfl, fun t => t.elim g1 (fun t => t.elim g2 (fun t => t.elim g3 (fun t => t g4)))⟩) hp
theorem rw_cellAt {post : Int32 → Prop} {L : Nat} {xs : Nat → Int32} {u : St0} {x : Int32} (k : Nat) (hL : L ≤ 6) (hk : k < 6) (hx : x = nI k) (hp : ∀ r, post r) : wpL_cellAt post L xs u x :=
  pk_le L k (fun _ => hp _) (fun z => ⟨pk_in k L z hx, hp _⟩) rfl hx
theorem i_vc (xs : Nat → Int32) (L : Nat) (hL : L ≤ 6) : wpL_law (fun r => r = 1) L xs := by
  unfold wpL_law
  refine rw_cellAt 0 hL (by omega) rfl (fun r1 => ?_)
  refine rw_cellAt 1 hL (by omega) rfl (fun r2 => ?_)
  refine rw_cellAt 2 hL (by omega) rfl (fun r3 => ?_)
  refine rw_cellAt 3 hL (by omega) rfl (fun r4 => ?_)
  refine rw_cellAt 4 hL (by omega) rfl (fun r5 => ?_)
  refine rw_cellAt 5 hL (by omega) rfl (fun r6 => ?_)
  exact ⟨6, 3336, by omega, by omega, rw_lawOf rfl⟩
end
