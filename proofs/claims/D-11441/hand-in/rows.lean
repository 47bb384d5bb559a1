section
/-! ===== numbers and tables ===== -/
theorem nr_bit : ∀ c, c < 4 → ∀ i, i < 10 → (((nI c >>> (nI i &&& 31)) &&& 1) = 0 ↔ c.testBit i = false) := by decide +kernel
theorem nr_bitH {c : Nat} (hc : c < 4) : ∀ i, 2 ≤ i → i < 10 → ((nI c >>> (nI i &&& 31)) &&& 1) = 0 := by
  intro i h2 hi
  have t : ∀ c, c < 4 → ∀ i, i < 10 → 2 ≤ i → ((nI c >>> (nI i &&& 31)) &&& 1) = 0 := by decide +kernel
  exact t c hc i hi h2
theorem nr_bit1 {c : Nat} (hc : c < 4) (h2 : 2 ≤ c) : ¬ ((nI c >>> (nI 1 &&& 31)) &&& 1) = 0 := by
  have t : ∀ c, c < 4 → 2 ≤ c → ¬ ((nI c >>> (nI 1 &&& 31)) &&& 1) = 0 := by decide +kernel
  exact t c hc h2
theorem nr_bit1n {c : Nat} (h2 : c < 2) : ((nI c >>> (nI 1 &&& 31)) &&& 1) = 0 := by
  have t : ∀ c, c < 2 → ((nI c >>> (nI 1 &&& 31)) &&& 1) = 0 := by decide +kernel
  exact t c h2
theorem nr_bit0 {c : Nat} (hc : c < 4) (h2 : c % 2 = 1) : ¬ ((nI c >>> (nI 0 &&& 31)) &&& 1) = 0 := by
  have t : ∀ c, c < 4 → c % 2 = 1 → ¬ ((nI c >>> (nI 0 &&& 31)) &&& 1) = 0 := by decide +kernel
  exact t c hc h2
theorem nr_bit0n {c : Nat} (hc : c < 4) (h2 : ¬ c % 2 = 1) : ((nI c >>> (nI 0 &&& 31)) &&& 1) = 0 := by
  have t : ∀ c, c < 4 → ¬ c % 2 = 1 → ((nI c >>> (nI 0 &&& 31)) &&& 1) = 0 := by decide +kernel
  exact t c hc h2
/-- the first and the second name of a path -/
def nr_f (t : Nat) : Nat := if t ≤ 3 then t - 1 else (t - 4) / 3
def nr_s (t : Nat) : Nat := (t - 4) % 3
theorem nr_f1 : ∀ t, t < 13 → 0 < t → ¬ 3 < t → nI t - 1 = nI (nr_f t) := by decide +kernel
theorem nr_f2 : ∀ t, t < 13 → 3 < t → (nI t - 4) / 3 = nI (nr_f t) := by decide +kernel
theorem nr_s2 : ∀ t, t < 13 → 3 < t → (nI t - 4) - (nI t - 4) / 3 * 3 = nI (nr_s t) := by decide +kernel
theorem nr_fs : ∀ t, t < 13 → nr_f t < 3 ∧ nr_s t < 3 := by decide +kernel
theorem nr_dv : ∀ c, c < 108 → nI c / 18 = nI (c / 18) ∧ (nI c - nI c / 18 * 18) / 6 = nI (c % 18 / 6) ∧ nI c - nI c / 6 * 6 = nI (c % 6) := by decide +kernel
theorem nr_cell (k m x : Nat) : nI k * 18 + nI m * 6 + nI x = nI (k * 18 + m * 6 + x) := by
  rw [show (18 : Int32) = nI 18 from rfl, show (6 : Int32) = nI 6 from rfl, pk_mul, pk_mul, nI_add, nI_add]
theorem nr_tr {x y z : Int32} (h : ¬ z ≤ x) (g : z ≤ y) : x ≤ y ∧ ¬ y ≤ x := by
  simp only [Int32.le_iff_toInt_le] at *
  omega
theorem nr_tr2 {x y z : Int32} (h : ¬ x ≤ z) (g : x ≤ y) : ¬ y ≤ z := by
  simp only [Int32.le_iff_toInt_le] at *
  omega
theorem nr_ltl {x y : Int32} (h : ¬ x ≤ y) : y ≤ x := by
  simp only [Int32.le_iff_toInt_le] at *
  omega
theorem nr_fill {s f : Nat → Int32} {i : Nat} {x : Int32} (h : ∀ j, j < i → s j = f j) (hx : x = f i) : ∀ j, j < i + 1 → upd s i x j = f j := by
  intro j hj
  by_cases e : j = i
  · rw [e, pk_us, hx]
  · rw [pk_un e]
    exact h j (by omega)
section
variable {P cs gs os sv : Int32} {a1 a2 a3 a4 a5 a6 a7 a8 a9 a10 a11 a12 : Nat → Int32}
/-! ===== the small methods ===== -/
theorem nr_fn {post : Int32 → Prop} {t : Nat} (ht : t < 13) (h0 : 0 < t) (h : post (nI (nr_f t))) : wpX_firstName post () (nI t) :=
  pk_lt 3 t (fun z => ⟨by decide, by rw [nr_f2 t ht z]; exact h⟩) (fun z => by rw [nr_f1 t ht h0 (by omega)]; exact h)
theorem nr_sn {post : Int32 → Prop} {t : Nat} (ht : t < 13) (h3 : 3 < t) (h : post (nI (nr_s t))) : wpX_secondName post () (nI t) :=
  ⟨by decide, by rw [nr_s2 t ht h3]; exact h⟩
theorem nr_has0 {post : Int32 → Prop} {i : Nat} (hi : i < 10) (hb : ((cs >>> (nI i &&& 31)) &&& 1) = 0) (h : post 0) : wpX_hasCert post (P, cs, gs, os, sv, a1, a2, a3, a4, a5, a6, a7, a8, a9, a10, a11, a12) (nI i) :=
  br_f (nI_pos (by omega)) (br_f (nI_ge (b := 10) hi (by decide)) (br_t hb h))
theorem nr_has1 {post : Int32 → Prop} {i : Nat} (hi : i < 10) (hb : ¬ ((cs >>> (nI i &&& 31)) &&& 1) = 0) (h : post 1) : wpX_hasCert post (P, cs, gs, os, sv, a1, a2, a3, a4, a5, a6, a7, a8, a9, a10, a11, a12) (nI i) :=
  br_f (nI_pos (by omega)) (br_f (nI_ge (b := 10) hi (by decide)) (br_f hb h))
theorem nr_hasA {post : Int32 → Prop} {i : Nat} (hi : i < 10) (h0 : post 0) (h1 : post 1) : wpX_hasCert post (P, cs, gs, os, sv, a1, a2, a3, a4, a5, a6, a7, a8, a9, a10, a11, a12) (nI i) :=
  br_f (nI_pos (by omega)) (br_f (nI_ge (b := 10) hi (by decide)) (br_c (fun _ => h0) (fun _ => h1)))
theorem nr_isP {post : Int32 → Prop} {k : Nat} (hk : k < 4) (h : post 1) : wpX_isPrincipal post (4, cs, gs, os, sv, a1, a2, a3, a4, a5, a6, a7, a8, a9, a10, a11, a12) (nI k) :=
  br_f (nI_pos (by omega)) (br_f (nI_ge (b := 4) hk (by decide)) h)
theorem nr_isN {post : Int32 → Prop} {k : Nat} (hk : k < 3) (h : post 1) : wpX_isName post () (nI k) :=
  br_f (nI_pos (by omega)) (br_f (nI_ge (b := 3) hk (by decide)) h)
theorem nr_isT {post : Int32 → Prop} {k : Nat} (hk : k < 13) (h : post 1) : wpX_isPath post () (nI k) :=
  br_f (nI_pos (by omega)) (br_f (nI_nlt (a := 12) (b := k) (by omega) (by omega)) h)
/-! ===== cheapest: the answer's place among the first i cells ===== -/
end
def nr_Q (a8 a9 : Nat → Int32) (i : Nat) (r : Int32) : Prop :=
  (r = -1 ∧ ∀ j, j < i → a9 j = 0 → (1048576 : Int32) ≤ a8 j) ∨
  (∃ c, c < i ∧ r = nI c ∧ a9 c = 0 ∧ ¬ (1048576 : Int32) ≤ a8 c ∧ (∀ j, j < c → a9 j = 0 → ¬ a8 j ≤ a8 c) ∧ (∀ j, j < i → a9 j = 0 → a8 c ≤ a8 j))
section
variable {P cs gs os sv : Int32} {a1 a2 a3 a4 a5 a6 a7 a8 a9 a10 a11 a12 : Nat → Int32}
theorem nr_Qn {i : Nat} {r : Int32} (h : nr_Q a8 a9 i r) (g : a9 i = 0 → (1048576 : Int32) ≤ a8 i) : nr_Q a8 a9 (i + 1) r := by
  rcases h with ⟨e, hq⟩ | ⟨c, hc, e, h9, h8, hq1, hq2⟩
  · exact Or.inl ⟨e, lt_s hq g⟩
  · exact Or.inr ⟨c, by omega, e, h9, h8, hq1, lt_s hq2 (fun z => (nr_tr h8 (g z)).1)⟩
theorem nr_cheap {post : Int32 → Prop} (h : ∀ r, nr_Q a8 a9 108 r → post r) : wpX_cheapest post (P, cs, gs, os, sv, a1, a2, a3, a4, a5, a6, a7, a8, a9, a10, a11, a12) := by
  refine loop_0 (fun n i s => wX_cheapest_4 post P cs gs os sv a1 a2 a3 a4 a5 a6 a7 a8 a9 a10 a11 a12 n s (nI i)) (nr_Q a8 a9) 108 (-1) (Or.inl ⟨rfl, lt_0⟩) ?_ ?_
  · intro n r hq
    exact br_t (nI_le (Nat.le_refl 108) (by decide)) (h r hq)
  · intro n i r hi hq hw
    have hc := nI_clamp (show i < 2 ^ 31 by omega)
    refine br_f (nI_ge (b := 108) hi (by decide)) ⟨vp_in_nI hi (by decide), ?_⟩
    rw [hc]
    refine br_c (fun h9 => ⟨vp_in_nI hi (by decide), ?_⟩) (fun h9 => nm_r (nI_1 i) (hw r (nr_Qn hq (fun z => absurd z h9))))
    refine br_c (fun h8 => nm_r (nI_1 i) (hw r (nr_Qn hq (fun _ => h8)))) (fun h8 => ?_)
    rcases hq with ⟨e, hq⟩ | ⟨c, hci, e, h9c, h8c, hq1, hq2⟩
    · subst e
      exact br_t (by decide) (nm_r (nI_1 i) (hw (nI i) (Or.inr ⟨i, by omega, rfl, h9, h8, fun j hj g => (nr_tr h8 (hq j hj g)).2, lt_s (fun j hj g => (nr_tr h8 (hq j hj g)).1) (fun _ => Int32.le_refl _)⟩)))
    · subst e
      refine br_f (nI_pos (by omega)) ⟨vp_in_nI hi (by decide), vp_in_nI (by omega) (by decide), ?_⟩
      rw [nI_clamp (show c < 2 ^ 31 by omega)]
      refine br_c (fun g => nm_r (nI_1 i) (hw (nI c) (Or.inr ⟨c, by omega, rfl, h9c, h8c, hq1, lt_s hq2 (fun _ => g)⟩))) (fun g => nm_r (nI_1 i) (hw (nI i) (Or.inr ⟨i, by omega, rfl, h9, h8, fun j hj z => nr_tr2 g (hq2 j hj z), lt_s (fun j hj z => ?_) (fun _ => Int32.le_refl _)⟩)))
      exact nr_ltl (nr_tr2 g (hq2 j hj z))
/-! ===== offer ===== -/
theorem nr_offer {post : St2 → Prop} {i x v k m : Nat} {x' v' : Int32} (hi : i < 10) (h1 : a1 i = nI k) (h2 : a2 i = nI m) (ex : x' = nI x) (ev : v' = nI v) (hc : k * 18 + m * 6 + x < 108) (hv : v ≤ 999) (hlt : ¬ a8 (k * 18 + m * 6 + x) ≤ nI v) (h : post (P, cs, gs, os, sv, a1, a2, a3, a4, a5, a6, a7, upd a8 (k * 18 + m * 6 + x) (nI v), a9, a10, a11, a12)) : wpX_offer post (P, cs, gs, os, sv, a1, a2, a3, a4, a5, a6, a7, a8, a9, a10, a11, a12) (nI i) x' v' := by
  subst ex ev
  unfold wpX_offer wpX_cellOf
  dsimp only
  rw [nI_clamp (show i < 2 ^ 31 by omega), h1, h2, nr_cell, nI_clamp (show k * 18 + m * 6 + x < 2 ^ 31 by omega)]
  exact ⟨vp_in_nI hi (by decide), vp_in_nI hi (by decide), br_f (nI_nlt (a := 999) (b := v) hv (by decide)) ⟨vp_in_nI hc (by decide), br_f hlt ⟨vp_in_nI hc (by decide), nm_e h⟩⟩⟩
theorem nr_offer0 {post : St2 → Prop} {i x v k m : Nat} {x' v' : Int32} (hi : i < 10) (h1 : a1 i = nI k) (h2 : a2 i = nI m) (ex : x' = nI x) (ev : v' = nI v) (hc : k * 18 + m * 6 + x < 108) (hv : v ≤ 999) (hlt : a8 (k * 18 + m * 6 + x) ≤ nI v) (h : post (P, cs, gs, os, sv, a1, a2, a3, a4, a5, a6, a7, a8, a9, a10, a11, a12)) : wpX_offer post (P, cs, gs, os, sv, a1, a2, a3, a4, a5, a6, a7, a8, a9, a10, a11, a12) (nI i) x' v' := by
  subst ex ev
  unfold wpX_offer wpX_cellOf
  dsimp only
  rw [nI_clamp (show i < 2 ^ 31 by omega), h1, h2, nr_cell, nI_clamp (show k * 18 + m * 6 + x < 2 ^ 31 by omega)]
  exact ⟨vp_in_nI hi (by decide), vp_in_nI hi (by decide), br_f (nI_nlt (a := 999) (b := v) hv (by decide)) ⟨vp_in_nI hc (by decide), br_t hlt h⟩⟩
end
end
section
/-! ===== the pictures ===== -/
/-- the certificates: which of the two are set (c), the first one's principal (p), the second one's path (t) -/
def nr_C (c p t : Nat) (cs : Int32) (a1 a2 a3 a4 : Nat → Int32) : Prop :=
  c < 4 ∧ p < 4 ∧ t < 13 ∧ cs = nI c ∧ a1 0 = nI 0 ∧ a2 0 = nI 0 ∧ a3 0 = nI p ∧ a4 0 = nI 0 ∧ (2 ≤ c → a1 1 = nI 1 ∧ a2 1 = nI 1 ∧ a3 1 = nI 0 ∧ a4 1 = nI t)
/-- the costs: cell u costs 1, cell v costs d, the others are far (a cell from 108 on is none) -/
def nr_K (u v d : Nat) (a : Nat → Int32) : Prop := ∀ j, j < 108 → a j = if j = u then nI 1 else if j = v then nI d else 1048576
/-- the settled cells: u and v -/
def nr_Z (u v : Nat) (a : Nat → Int32) : Prop := ∀ j, j < 108 → (a j = 0 ↔ j ≠ u ∧ j ≠ v)
theorem nr_Ku {u v d : Nat} {a : Nat → Int32} (h : nr_K u v d a) (hu : u < 108) : a u = nI 1 := by
  rw [h u hu, if_pos rfl]
theorem nr_Kv {u v d : Nat} {a : Nat → Int32} (h : nr_K u v d a) (hv : v < 108) (n : v ≠ u) : a v = nI d := by
  rw [h v hv, if_neg n, if_pos rfl]
theorem nr_Kn {u v d j : Nat} {a : Nat → Int32} (h : nr_K u v d a) (hj : j < 108) (n : j ≠ u) (n2 : j ≠ v) : a j = 1048576 := by
  rw [h j hj, if_neg n, if_neg n2]
theorem nr_Kset {u d' v d : Nat} {a : Nat → Int32} (h : nr_K u 200 d' a) (n : v ≠ u) : nr_K u v d (upd a v (nI d)) := by
  intro j hj
  by_cases e : j = v
  · rw [e, pk_us, if_neg n, if_pos rfl]
  · rw [pk_un e, h j hj]
    by_cases e2 : j = u
    · rw [if_pos e2, if_pos e2]
    · rw [if_neg e2, if_neg e2, if_neg e, if_neg (by omega)]
theorem nr_KsetU {u v d : Nat} {a : Nat → Int32} (h : nr_K 200 v d a) : nr_K u v d (upd a u (nI 1)) := by
  intro j hj
  by_cases e : j = u
  · rw [e, pk_us, if_pos rfl]
  · rw [pk_un e, h j hj, if_neg e, if_neg (by omega)]
theorem nr_Zset1 {u v : Nat} {a : Nat → Int32} (h : nr_Z 200 v a) : nr_Z u v (upd a u 1) := by
  intro j hj
  by_cases e : j = u
  · rw [e, pk_us]
    exact ⟨fun z => absurd z (by decide), fun z => absurd rfl z.1⟩
  · rw [pk_un e, h j hj]
    exact ⟨fun z => ⟨e, z.2⟩, fun z => ⟨by omega, z.2⟩⟩
theorem nr_Zset2 {u v : Nat} {a : Nat → Int32} (h : nr_Z u 200 a) : nr_Z u v (upd a v 1) := by
  intro j hj
  by_cases e : j = v
  · rw [e, pk_us]
    exact ⟨fun z => absurd z (by decide), fun z => absurd rfl z.2⟩
  · rw [pk_un e, h j hj]
    exact ⟨fun z => ⟨z.1, e⟩, fun z => ⟨z.1, by omega⟩⟩
/-! what cheapest answers over the pictures -/
theorem nr_qU {u v d : Nat} {a8 a9 : Nat → Int32} {r : Int32} (hK : nr_K u v d a8) (hZ : nr_Z 200 200 a9) (hu : u < v) (hu2 : u < 108) (hd : 1 ≤ d) (hd2 : d < 2 ^ 31) (q : nr_Q a8 a9 108 r) : r = nI u := by
  have z : a9 u = 0 := (hZ u hu2).mpr ⟨by omega, by omega⟩
  rcases q with ⟨_, hq⟩ | ⟨c, hc, e, h9, h8, hq1, _⟩
  · have g := hq u hu2 z
    rw [nr_Ku hK hu2] at g
    exact absurd g (by decide)
  · by_cases e1 : c = u
    · rw [e, e1]
    · by_cases e2 : c = v
      · have g := hq1 u (by omega) z
        rw [nr_Ku hK hu2, e2, nr_Kv hK (by omega) (by omega)] at g
        exact absurd (nI_le hd hd2) g
      · rw [nr_Kn hK hc e1 e2] at h8
        exact absurd (Int32.le_refl _) h8
theorem nr_qV {u s v d : Nat} {a8 a9 : Nat → Int32} {r : Int32} (hK : nr_K u v d a8) (hZ : nr_Z s 200 a9) (hu : u = s ∨ 108 ≤ u) (hv : v < 108) (nv : v ≠ u) (ns : v ≠ s) (hd : d < 1048576) (q : nr_Q a8 a9 108 r) : r = nI v := by
  have z : a9 v = 0 := (hZ v hv).mpr ⟨ns, by omega⟩
  rcases q with ⟨_, hq⟩ | ⟨c, hc, e, h9, h8, _, _⟩
  · have g := hq v hv z
    rw [nr_Kv hK hv nv] at g
    exact absurd g (nI_ge (b := 1048576) hd (by decide))
  · by_cases e2 : c = v
    · rw [e, e2]
    · have n := ((hZ c hc).mp h9).1
      rw [nr_Kn hK hc (by omega) e2] at h8
      exact absurd (Int32.le_refl _) h8
theorem nr_qE {u v s1 s2 d : Nat} {a8 a9 : Nat → Int32} {r : Int32} (hK : nr_K u v d a8) (hZ : nr_Z s1 s2 a9) (hu : u = s1 ∨ u = s2 ∨ 108 ≤ u) (hv : v = s1 ∨ v = s2 ∨ 108 ≤ v) (q : nr_Q a8 a9 108 r) : r = -1 := by
  rcases q with ⟨e, _⟩ | ⟨c, hc, e, h9, h8, _, _⟩
  · exact e
  · have n := (hZ c hc).mp h9
    rw [nr_Kn hK hc (by omega) (by omega)] at h8
    exact absurd (Int32.le_refl _) h8
section
variable {P cs gs os sv : Int32} {a1 a2 a3 a4 a5 a6 a7 a8 a9 a10 a11 a12 : Nat → Int32}
/-! ===== passOn, comeFrom ===== -/
theorem nr_14s {post : St2 → Prop} {x s : Nat} {x1 cost : Int32} (hx : x < 6) (hs : s < 3) (h : post (P, cs, gs, os, sv, a1, a2, a3, a4, a5, a6, a7, a8, a9, a10, a11, a12)) : ∀ c i, i + c = 6 → (∀ y, i ≤ y → y < 6 → a9 (x * 18 + s * 6 + y) = 0) → wX_passOn_14 post x1 (nI x) cost (nI s) (c + 1) (nI i) P cs gs os sv a1 a2 a3 a4 a5 a6 a7 a8 a9 a10 a11 a12
  | 0, i, e, _ => br_t (nI_le (a := 6) (by omega) (by omega)) h
  | c + 1, i, e, hz => by
    refine br_f (nI_ge (b := 6) (by omega) (by decide)) ?_
    unfold wpX_cellOf
    rw [nr_cell]
    dsimp only
    rw [nI_clamp (show x * 18 + s * 6 + i < 2 ^ 31 by omega)]
    exact ⟨vp_in_nI (by omega) (by decide), br_t (hz i (Nat.le_refl i) (by omega)) (nm_r (nI_1 i) (nr_14s hx hs h c (i + 1) (by omega) (fun y hy => hz y (by omega))))⟩
/-- nobody is settled for the second name of x -/
theorem nr_pass0 {post : St2 → Prop} {t x : Nat} {cost : Int32} (ht : t < 13) (h3 : 3 < t) (h4 : a4 1 = nI t) (hx : x < 6) (hz : ∀ y, y < 6 → a9 (x * 18 + nr_s t * 6 + y) = 0) (h : post (P, cs, gs, os, sv, a1, a2, a3, a4, a5, a6, a7, a8, a9, a10, a11, a12)) : wpX_passOn post (P, cs, gs, os, sv, a1, a2, a3, a4, a5, a6, a7, a8, a9, a10, a11, a12) (nI 1) (nI x) cost := by
  refine ⟨vp_in_nI (by omega) (by decide), ?_⟩
  have e4 : a4 (nI 1).toNatClampNeg = nI t := h4
  rw [e4]
  exact nr_sn ht h3 ⟨7, nr_14s hx (nr_fs t ht).2 h 6 0 rfl (fun y _ hy => hz y hy)⟩
theorem nr_come0 {post : St2 → Prop} {t k x : Nat} {cost : Int32} (ht : t < 13) (h0 : 0 < t) (h3 : a3 1 = nI 0) (h4 : a4 1 = nI t) (hk : k < 6) (hz : a9 (0 * 18 + nr_f t * 6 + k) = 0) (h : post (P, cs, gs, os, sv, a1, a2, a3, a4, a5, a6, a7, a8, a9, a10, a11, a12)) : wpX_comeFrom post (P, cs, gs, os, sv, a1, a2, a3, a4, a5, a6, a7, a8, a9, a10, a11, a12) (nI 1) (nI k) (nI x) cost := by
  have hf := (nr_fs t ht).1
  refine ⟨vp_in_nI (by omega) (by decide), ?_⟩
  have e4 : a4 (nI 1).toNatClampNeg = nI t := h4
  have e3 : a3 (nI 1).toNatClampNeg = nI 0 := h3
  rw [e4]
  refine nr_fn ht h0 ⟨vp_in_nI (by omega) (by decide), ?_⟩
  rw [e3]
  unfold wpX_cellOf
  rw [nr_cell]
  dsimp only
  rw [nI_clamp (show 0 * 18 + nr_f t * 6 + k < 2 ^ 31 by omega)]
  exact ⟨vp_in_nI (by omega) (by decide), br_t hz h⟩
/-! ===== spread: the loop over the certificates ===== -/
theorem nr_30s {post : St2 → Prop} {x2 x3 x4 x5 : Int32} (hb : ∀ i, 2 ≤ i → i < 10 → ((cs >>> (nI i &&& 31)) &&& 1) = 0) (h : post (P, cs, gs, os, sv, a1, a2, a3, a4, a5, a6, a7, a8, a9, a10, a11, a12)) : ∀ c i, 2 ≤ i → i + c = 10 → wX_spread_30 post x2 x3 x4 x5 (c + 1) (nI i) P cs gs os sv a1 a2 a3 a4 a5 a6 a7 a8 a9 a10 a11 a12
  | 0, i, _, e => br_t (nI_le (a := 10) (by omega) (by omega)) h
  | c + 1, i, hi, e => br_f (nI_ge (b := 10) (by omega) (by decide)) ⟨vp_in_nI (by omega) (by decide), nm_e (nr_has0 (by omega) (hb i hi (by omega)) (br_t rfl (nm_r (nI_1 i) (nr_30s hb h c (i + 1) (by omega) (by omega)))))⟩
theorem nr_30a {post : St2 → Prop} {x2 x3 x4 x5 : Int32} {n : Nat} (h4 : a4 0 = nI 0) (h : wX_spread_30 post x2 x3 x4 x5 n (nI 1) P cs gs os sv a1 a2 a3 a4 a5 a6 a7 a8 a9 a10 a11 a12) : wX_spread_30 post x2 x3 x4 x5 (n + 1) (nI 0) P cs gs os sv a1 a2 a3 a4 a5 a6 a7 a8 a9 a10 a11 a12 := by
  have e4 : a4 (nI 0).toNatClampNeg = nI 0 := h4
  exact br_f (by decide) ⟨vp_in_nI (by omega) (by decide), nm_r e4 (nr_hasA (by omega) (br_t rfl (nm_r (nI_1 0) h)) (br_f (by decide) (br_t (by decide) (nm_r (nI_1 0) h))))⟩
/-- the second certificate isn't there, or says a principal -/
theorem nr_30n {post : St2 → Prop} {x2 x3 x4 x5 : Int32} {n c t : Nat} (hcs : cs = nI c) (hc : c < 4) (ht : 2 ≤ c → a4 1 = nI 0) (h : wX_spread_30 post x2 x3 x4 x5 n (nI 2) P cs gs os sv a1 a2 a3 a4 a5 a6 a7 a8 a9 a10 a11 a12) : wX_spread_30 post x2 x3 x4 x5 (n + 1) (nI 1) P cs gs os sv a1 a2 a3 a4 a5 a6 a7 a8 a9 a10 a11 a12 := by
  refine br_f (by decide) ⟨vp_in_nI (by omega) (by decide), nm_e ?_⟩
  by_cases h2 : 2 ≤ c
  · have e4 : a4 (nI 1).toNatClampNeg = nI 0 := ht h2
    rw [e4]
    exact nr_has1 (by omega) (by rw [hcs]; exact nr_bit1 hc h2) (br_f (by decide) (br_t (by decide) (nm_r (nI_1 1) h)))
  · exact nr_has0 (by omega) (by rw [hcs]; exact nr_bit1n (by omega)) (br_t rfl (nm_r (nI_1 1) h))
/-- the second certificate says a path of names -/
theorem nr_30t {post : St2 → Prop} {x4 x5 : Int32} {n c t k m : Nat} (hcs : cs = nI c) (hc : c < 4) (h2 : 2 ≤ c) (ht : t < 13) (h0 : 0 < t) (h3 : a3 1 = nI 0) (h4 : a4 1 = nI t) (hk : k < 6) (hm : m < 3)
    (hf : k = 0 → nr_f t = m → wX_spread_85 post (wX_spread_30 post (nI k) (nI m) x4 x5 n) (nI k) (nI m) x4 x5 (nI 1) (nI t) 1 P cs gs os sv a1 a2 a3 a4 a5 a6 a7 a8 a9 a10 a11 a12)
    (hn : ¬ (k = 0 ∧ nr_f t = m) → wX_spread_85 post (wX_spread_30 post (nI k) (nI m) x4 x5 n) (nI k) (nI m) x4 x5 (nI 1) (nI t) 0 P cs gs os sv a1 a2 a3 a4 a5 a6 a7 a8 a9 a10 a11 a12) : wX_spread_30 post (nI k) (nI m) x4 x5 (n + 1) (nI 1) P cs gs os sv a1 a2 a3 a4 a5 a6 a7 a8 a9 a10 a11 a12 := by
  have hfs := (nr_fs t ht).1
  have e4 : a4 (nI 1).toNatClampNeg = nI t := h4
  have e3 : a3 (nI 1).toNatClampNeg = nI 0 := h3
  refine br_f (by decide) ⟨vp_in_nI (by omega) (by decide), nm_r e4 (nr_has1 (by omega) (by rw [hcs]; exact nr_bit1 hc h2) (br_f (by decide) (br_f (nI_nle h0 (by omega)) ⟨vp_in_nI (by omega) (by decide), ?_⟩)))⟩
  rw [e3]
  exact pk_eq 0 k (fun z => nr_fn ht h0 (pk_eq (nr_f t) m (fun z2 => hf z.symm z2) (fun z2 => hn (fun w => z2 w.2)))) (fun z => hn (fun w => z w.1.symm))
/-- nothing follows -/
theorem nr_85n {post : St2 → Prop} {J : Int32 → Int32 → Int32 → Int32 → Int32 → Int32 → (Nat → Int32) → (Nat → Int32) → (Nat → Int32) → (Nat → Int32) → (Nat → Int32) → (Nat → Int32) → (Nat → Int32) → (Nat → Int32) → (Nat → Int32) → (Nat → Int32) → (Nat → Int32) → (Nat → Int32) → Prop} {x5 z : Int32} {t k m x : Nat} (ht : t < 13) (h0 : 0 < t) (h3 : a3 1 = nI 0) (h4 : a4 1 = nI t) (hk : k < 6) (hm : m < 3) (hx : x < 6)
    (H1 : t ≤ 3 → z = 0) (H2 : 3 < t → ¬ z = 0 → ∀ y, y < 6 → a9 (x * 18 + nr_s t * 6 + y) = 0) (H3 : 3 < t → nr_s t = m → a9 (0 * 18 + nr_f t * 6 + k) = 0)
    (h : J (nI 2) P cs gs os sv a1 a2 a3 a4 a5 a6 a7 a8 a9 a10 a11 a12) : wX_spread_85 post J (nI k) (nI m) (nI x) x5 (nI 1) (nI t) z P cs gs os sv a1 a2 a3 a4 a5 a6 a7 a8 a9 a10 a11 a12 := by
  have hs := (nr_fs t ht).2
  have r131 : wX_spread_131 post J (nI k) (nI m) (nI x) x5 (nI 1) (nI t) P cs gs os sv a1 a2 a3 a4 a5 a6 a7 a8 a9 a10 a11 a12 :=
    pk_le t 3 (fun _ => nm_r (nI_1 1) h) (fun g => nr_sn ht g (pk_eq (nr_s t) m (fun e => nr_come0 ht h0 h3 h4 hk (H3 g e) (nm_r (nI_1 1) h)) (fun _ => nm_r (nI_1 1) h)))
  have r110 : wX_spread_110 post J (nI k) (nI m) (nI x) x5 (nI 1) (nI t) z P cs gs os sv a1 a2 a3 a4 a5 a6 a7 a8 a9 a10 a11 a12 :=
    pk_le t 3 (fun _ => r131) (fun g => br_c (fun _ => r131) (fun nz => nr_pass0 ht g h4 hx (H2 g nz) r131))
  exact pk_lt 3 t (fun _ => r110) (fun g => br_t (H1 g) r110)
theorem nr_spr {post : St2 → Prop} {c : Nat} (hc : c < 108) (h : ∃ fu, wX_spread_30 post (nI (c / 18)) (nI (c % 18 / 6)) (nI (c % 6)) (a8 c) fu (nI 0) P cs gs os sv a1 a2 a3 a4 a5 a6 a7 a8 a9 a10 a11 a12) : wpX_spread post (P, cs, gs, os, sv, a1, a2, a3, a4, a5, a6, a7, a8, a9, a10, a11, a12) (nI c) := by
  obtain ⟨e1, e2, e3⟩ := nr_dv c hc
  have e8 : a8 (nI c).toNatClampNeg = a8 c := by rw [nI_clamp (by omega)]
  exact ⟨by decide, nm_r e1 ⟨by decide, by decide, nm_r e2 ⟨by decide, nm_r e3 ⟨vp_in_nI hc (by decide), nm_r e8 h⟩⟩⟩⟩
/-- spread that adds nothing -/
theorem nr_spread0 {post : St2 → Prop} {c p t ce : Nat} (hC : nr_C c p t cs a1 a2 a3 a4) (hce : ce < 108)
    (H : 2 ≤ c → 0 < t → (t ≤ 3 → ¬ (ce / 18 = 0 ∧ nr_f t = ce % 18 / 6)) ∧ (3 < t → ce / 18 = 0 → nr_f t = ce % 18 / 6 → ∀ y, y < 6 → a9 (ce % 6 * 18 + nr_s t * 6 + y) = 0) ∧ (3 < t → nr_s t = ce % 18 / 6 → a9 (0 * 18 + nr_f t * 6 + ce / 18) = 0))
    (h : post (P, cs, gs, os, sv, a1, a2, a3, a4, a5, a6, a7, a8, a9, a10, a11, a12)) : wpX_spread post (P, cs, gs, os, sv, a1, a2, a3, a4, a5, a6, a7, a8, a9, a10, a11, a12) (nI ce) := by
  obtain ⟨hc, hp, ht, hcs, c1, c2, c3, c4, hC2⟩ := hC
  have hb : ∀ i, 2 ≤ i → i < 10 → ((cs >>> (nI i &&& 31)) &&& 1) = 0 := by rw [hcs]; exact nr_bitH hc
  refine nr_spr hce ⟨11, nr_30a c4 ?_⟩
  by_cases g : 2 ≤ c ∧ 0 < t
  · obtain ⟨d1, d2, d3, d4⟩ := hC2 g.1
    obtain ⟨H1, H2, H3⟩ := H g.1 g.2
    refine nr_30t hcs hc g.1 ht g.2 d3 d4 (by omega) (by omega) (fun z1 z2 => ?_) (fun z => ?_)
    · exact nr_85n ht g.2 d3 d4 (by omega) (by omega) (by omega) (fun w => absurd ⟨z1, z2⟩ (H1 w)) (fun w _ => H2 w z1 z2) H3 (nr_30s hb h 8 2 (by omega) rfl)
    · exact nr_85n ht g.2 d3 d4 (by omega) (by omega) (by omega) (fun w => rfl) (fun w w2 => absurd rfl w2) H3 (nr_30s hb h 8 2 (by omega) rfl)
  · refine nr_30n (t := t) hcs hc (fun w => ?_) (nr_30s hb h 8 2 (by omega) rfl)
    have : t = 0 := by omega
    rw [(hC2 w).2.2.2, this]
end
end
section
section
variable {P cs gs os sv : Int32} {a1 a2 a3 a4 a5 a6 a7 a8 a9 a10 a11 a12 : Nat → Int32}
/-! ===== spread that adds a membership ===== -/
theorem nr_spread1 {post : St2 → Prop} {c p : Nat} (hC : nr_C c p 1 cs a1 a2 a3 a4) (h2 : 2 ≤ c) (h8 : a8 p = nI 1) (hf : ¬ a8 (24 + p) ≤ nI 2) (h : post (P, cs, gs, os, sv, a1, a2, a3, a4, a5, a6, a7, upd a8 (24 + p) (nI 2), a9, a10, a11, a12)) : wpX_spread post (P, cs, gs, os, sv, a1, a2, a3, a4, a5, a6, a7, a8, a9, a10, a11, a12) (nI p) := by
  obtain ⟨hc, hp, ht, hcs, c1, c2, c3, c4, hC2⟩ := hC
  obtain ⟨d1, d2, d3, d4⟩ := hC2 h2
  have hb : ∀ i, 2 ≤ i → i < 10 → ((cs >>> (nI i &&& 31)) &&& 1) = 0 := by rw [hcs]; exact nr_bitH hc
  have k0 : p / 18 = 0 := by omega
  have m0 : p % 18 / 6 = 0 := by omega
  have x0 : p % 6 = p := by omega
  refine nr_spr (by omega) ⟨11, nr_30a c4 ?_⟩
  rw [k0, m0, x0, h8]
  refine nr_30t hcs hc h2 ht (by omega) d3 d4 (by omega) (by omega) (fun _ _ => ?_) (fun z => absurd ⟨rfl, rfl⟩ z)
  refine br_f (by decide) (br_f (by decide) (nr_offer (x := p) (v := 2) (k := 1) (m := 1) (by omega) d1 d2 rfl rfl (by omega) (by omega) hf ?_))
  exact br_t (by decide) (br_t (by decide) (nm_r (nI_1 1) (nr_30s hb h 8 2 (by omega) rfl)))
theorem nr_pass4 {post : St2 → Prop} {c : Nat} (hC : nr_C c 0 4 cs a1 a2 a3 a4) (h2 : 2 ≤ c) (h8 : a8 0 = nI 1) (hf : ¬ a8 24 ≤ nI 3) (h9 : ¬ a9 0 = 0) (hz : ∀ y, 1 ≤ y → y < 6 → a9 y = 0) (h : post (P, cs, gs, os, sv, a1, a2, a3, a4, a5, a6, a7, upd a8 24 (nI 3), a9, a10, a11, a12)) : wpX_passOn post (P, cs, gs, os, sv, a1, a2, a3, a4, a5, a6, a7, a8, a9, a10, a11, a12) (nI 1) (nI 0) (nI 1) := by
  obtain ⟨hc, hp, ht, hcs, c1, c2, c3, c4, hC2⟩ := hC
  obtain ⟨d1, d2, d3, d4⟩ := hC2 h2
  refine ⟨vp_in_nI (by omega) (by decide), ?_⟩
  have e4 : a4 (nI 1).toNatClampNeg = nI 4 := d4
  rw [e4]
  refine nr_sn (by omega) (by omega) ⟨7, br_f (by decide) ⟨vp_in_iff.mpr (by decide), br_f h9 ⟨vp_in_iff.mpr (by decide), ?_⟩⟩⟩
  refine nr_offer (x := 0) (v := 3) (k := 1) (m := 1) (by omega) d1 d2 rfl ?_ (by omega) (by omega) hf (nm_r (nI_1 0) (nr_14s (x := 0) (s := 0) (by omega) (by omega) h 5 1 rfl (fun y hy hy6 => ?_)))
  · show nI 1 + a8 0 + 1 = nI 3
    rw [h8]
    rfl
  · rw [show 0 * 18 + 0 * 6 + y = y by omega]
    exact hz y hy hy6
theorem nr_come4 {post : St2 → Prop} {c : Nat} (hC : nr_C c 0 4 cs a1 a2 a3 a4) (h2 : 2 ≤ c) (h8 : a8 0 = nI 1) (hf : a8 24 ≤ nI 3) (h9 : ¬ a9 0 = 0) (h : post (P, cs, gs, os, sv, a1, a2, a3, a4, a5, a6, a7, a8, a9, a10, a11, a12)) : wpX_comeFrom post (P, cs, gs, os, sv, a1, a2, a3, a4, a5, a6, a7, a8, a9, a10, a11, a12) (nI 1) (nI 0) (nI 0) (nI 1) := by
  obtain ⟨hc, hp, ht, hcs, c1, c2, c3, c4, hC2⟩ := hC
  obtain ⟨d1, d2, d3, d4⟩ := hC2 h2
  have e4 : a4 (nI 1).toNatClampNeg = nI 4 := d4
  have e3 : a3 (nI 1).toNatClampNeg = nI 0 := d3
  refine ⟨vp_in_nI (by omega) (by decide), ?_⟩
  rw [e4]
  refine nr_fn (by omega) (by omega) ⟨vp_in_nI (by omega) (by decide), ?_⟩
  rw [e3]
  refine ⟨vp_in_iff.mpr (by decide), br_f h9 ⟨vp_in_iff.mpr (by decide), ?_⟩⟩
  refine nr_offer0 (x := 0) (v := 3) (k := 1) (m := 1) (by omega) d1 d2 rfl ?_ (by omega) (by omega) hf h
  show nI 1 + a8 0 + 1 = nI 3
  rw [h8]
  rfl
theorem nr_spread4 {post : St2 → Prop} {c : Nat} (hC : nr_C c 0 4 cs a1 a2 a3 a4) (h2 : 2 ≤ c) (h8 : a8 0 = nI 1) (hf : ¬ a8 24 ≤ nI 3) (h9 : ¬ a9 0 = 0) (hz : ∀ y, 1 ≤ y → y < 6 → a9 y = 0) (h : post (P, cs, gs, os, sv, a1, a2, a3, a4, a5, a6, a7, upd a8 24 (nI 3), a9, a10, a11, a12)) : wpX_spread post (P, cs, gs, os, sv, a1, a2, a3, a4, a5, a6, a7, a8, a9, a10, a11, a12) (nI 0) := by
  have hC' := hC
  obtain ⟨hc, hp, ht, hcs, c1, c2, c3, c4, hC2⟩ := hC'
  obtain ⟨d1, d2, d3, d4⟩ := hC2 h2
  have hb : ∀ i, 2 ≤ i → i < 10 → ((cs >>> (nI i &&& 31)) &&& 1) = 0 := by rw [hcs]; exact nr_bitH hc
  refine nr_spr (by omega) ⟨11, nr_30a c4 ?_⟩
  rw [h8]
  refine nr_30t (k := 0) (m := 0) (t := 4) hcs hc h2 ht (by omega) d3 d4 (by omega) (by omega) (fun _ _ => ?_) (fun z => absurd ⟨rfl, rfl⟩ z)
  refine br_t (by decide) (br_f (by decide) (br_f (by decide) (nr_pass4 hC h2 h8 hf h9 hz ?_)))
  refine br_f (by decide) (nr_sn (t := 4) (by omega) (by omega) (br_t rfl (nr_come4 hC h2 ?_ ?_ h9 (nm_r (nI_1 1) (nr_30s hb h 8 2 (by omega) rfl)))))
  · rw [pk_un (by decide)]
    exact h8
  · rw [pk_us]
    exact Int32.le_refl _
/-! ===== the rounds ===== -/
theorem nr_stop {post : St2 → Prop} {n i : Nat} (hi : i < 108) (q : ∀ r, nr_Q a8 a9 108 r → r = -1) (h : post (P, cs, gs, os, sv, a1, a2, a3, a4, a5, a6, a7, a8, a9, a10, a11, a12)) : wX_solve_87 post (n + 1) (nI i) P cs gs os sv a1 a2 a3 a4 a5 a6 a7 a8 a9 a10 a11 a12 :=
  br_f (nI_ge (b := 108) hi (by decide)) (nr_cheap (fun r g => by
    rw [q r g]
    exact br_f (by decide) h))
theorem nr_go {post : St2 → Prop} {n i ce : Nat} {b8 : Nat → Int32} (hi : i < 108) (hce : ce < 108) (q : ∀ r, nr_Q a8 a9 108 r → r = nI ce) (hs : ∀ ψ : St2 → Prop, ψ (P, cs, gs, os, sv, a1, a2, a3, a4, a5, a6, a7, b8, upd a9 ce 1, a10, a11, a12) → wpX_spread ψ (P, cs, gs, os, sv, a1, a2, a3, a4, a5, a6, a7, a8, upd a9 ce 1, a10, a11, a12) (nI ce)) (h : wX_solve_87 post n (nI (i + 1)) P cs gs os sv a1 a2 a3 a4 a5 a6 a7 b8 (upd a9 ce 1) a10 a11 a12) : wX_solve_87 post (n + 1) (nI i) P cs gs os sv a1 a2 a3 a4 a5 a6 a7 a8 a9 a10 a11 a12 :=
  br_f (nI_ge (b := 108) hi (by decide)) (nr_cheap (fun r g => by
    rw [q r g]
    exact br_t (nI_pos' (by omega)) ⟨vp_in_nI hce (by decide), nm_r (by rw [nI_clamp (by omega)]) (hs _ (nm_r (nI_1 i) h))⟩))
/-! ===== the first offers ===== -/
theorem nr_44s {post : St2 → Prop} (hb : ∀ i, 2 ≤ i → i < 10 → ((cs >>> (nI i &&& 31)) &&& 1) = 0) (h : ∃ fu, wX_solve_87 post fu (nI 0) P cs gs os sv a1 a2 a3 a4 a5 a6 a7 a8 a9 a10 a11 a12) : ∀ c i, 2 ≤ i → i + c = 10 → wX_solve_44 post (c + 1) (nI i) P cs gs os sv a1 a2 a3 a4 a5 a6 a7 a8 a9 a10 a11 a12
  | 0, i, _, e => br_t (nI_le (a := 10) (by omega) (by omega)) h
  | c + 1, i, hi, e => br_f (nI_ge (b := 10) (by omega) (by decide)) (nr_has0 (by omega) (hb i hi (by omega)) (br_t rfl (nm_r (nI_1 i) (nr_44s hb h c (i + 1) (by omega) (by omega)))))
theorem nr_44a {post : St2 → Prop} {n c p t : Nat} (hC : nr_C c p t cs a1 a2 a3 a4) (ho : c % 2 = 1) (h8 : a8 p = 1048576) (h : wX_solve_44 post n (nI 1) P cs gs os sv a1 a2 a3 a4 a5 a6 a7 (upd a8 p (nI 1)) a9 a10 a11 a12) : wX_solve_44 post (n + 1) (nI 0) P cs gs os sv a1 a2 a3 a4 a5 a6 a7 a8 a9 a10 a11 a12 := by
  obtain ⟨hc, hp, ht, hcs, c1, c2, c3, c4, hC2⟩ := hC
  have e : 0 * 18 + 0 * 6 + p = p := by omega
  refine br_f (by decide) (nr_has1 (by omega) (by rw [hcs]; exact nr_bit0 hc ho) (br_f (by decide) ⟨vp_in_nI (by omega) (by decide), br_t c4 ⟨vp_in_nI (by omega) (by decide), nr_offer (x := p) (v := 1) (k := 0) (m := 0) (by omega) c1 c2 c3 rfl (by omega) (by omega) ?_ ?_⟩⟩))
  · rw [e, h8]
    decide
  · rw [e]
    exact nm_r (nI_1 0) h
theorem nr_44a0 {post : St2 → Prop} {n c p t : Nat} (hC : nr_C c p t cs a1 a2 a3 a4) (ho : ¬ c % 2 = 1) (h : wX_solve_44 post n (nI 1) P cs gs os sv a1 a2 a3 a4 a5 a6 a7 a8 a9 a10 a11 a12) : wX_solve_44 post (n + 1) (nI 0) P cs gs os sv a1 a2 a3 a4 a5 a6 a7 a8 a9 a10 a11 a12 := by
  obtain ⟨hc, hp, ht, hcs, c1, c2, c3, c4, hC2⟩ := hC
  exact br_f (by decide) (nr_has0 (by omega) (by rw [hcs]; exact nr_bit0n hc ho) (br_t rfl (nm_r (nI_1 0) h)))
theorem nr_44b {post : St2 → Prop} {n c p : Nat} (hC : nr_C c p 0 cs a1 a2 a3 a4) (h2 : 2 ≤ c) (h8 : a8 24 = 1048576) (h : wX_solve_44 post n (nI 2) P cs gs os sv a1 a2 a3 a4 a5 a6 a7 (upd a8 24 (nI 1)) a9 a10 a11 a12) : wX_solve_44 post (n + 1) (nI 1) P cs gs os sv a1 a2 a3 a4 a5 a6 a7 a8 a9 a10 a11 a12 := by
  obtain ⟨hc, hp, ht, hcs, c1, c2, c3, c4, hC2⟩ := hC
  obtain ⟨d1, d2, d3, d4⟩ := hC2 h2
  refine br_f (by decide) (nr_has1 (by omega) (by rw [hcs]; exact nr_bit1 hc h2) (br_f (by decide) ⟨vp_in_nI (by omega) (by decide), br_t d4 ⟨vp_in_nI (by omega) (by decide), nr_offer (x := 0) (v := 1) (k := 1) (m := 1) (by omega) d1 d2 d3 rfl (by omega) (by omega) ?_ (nm_r (nI_1 1) h)⟩⟩))
  show ¬ a8 24 ≤ nI 1
  rw [h8]
  decide
theorem nr_44b0 {post : St2 → Prop} {n c p t : Nat} (hC : nr_C c p t cs a1 a2 a3 a4) (h2 : c < 2 ∨ 0 < t) (h : wX_solve_44 post n (nI 2) P cs gs os sv a1 a2 a3 a4 a5 a6 a7 a8 a9 a10 a11 a12) : wX_solve_44 post (n + 1) (nI 1) P cs gs os sv a1 a2 a3 a4 a5 a6 a7 a8 a9 a10 a11 a12 := by
  obtain ⟨hc, hp, ht, hcs, c1, c2, c3, c4, hC2⟩ := hC
  by_cases g : 2 ≤ c
  · obtain ⟨d1, d2, d3, d4⟩ := hC2 g
    have e4 : a4 (nI 1).toNatClampNeg = nI t := d4
    refine br_f (by decide) (nr_has1 (by omega) (by rw [hcs]; exact nr_bit1 hc g) (br_f (by decide) ⟨vp_in_nI (by omega) (by decide), ?_⟩))
    rw [e4]
    exact br_f (nI_ne0 (by omega) (by omega)) (nm_r (nI_1 1) h)
  · exact br_f (by decide) (nr_has0 (by omega) (by rw [hcs]; exact nr_bit1n (by omega)) (br_t rfl (nm_r (nI_1 1) h)))
theorem nr_15 {post : St2 → Prop} (h : ∀ b8 b9, (∀ j, j < 108 → b8 j = 1048576) → (∀ j, j < 108 → b9 j = 0) → ∃ fu, wX_solve_44 post fu (nI 0) P cs gs os sv a1 a2 a3 a4 a5 a6 a7 b8 b9 a10 a11 a12) : ∃ n, wX_solve_15 post P cs gs os sv n (nI 0) a1 a2 a3 a4 a5 a6 a7 a8 a9 a10 a11 a12 :=
  loop_0 (σ := (Nat → Int32) × (Nat → Int32)) (fun n i s => wX_solve_15 post P cs gs os sv n (nI i) a1 a2 a3 a4 a5 a6 a7 s.1 s.2 a10 a11 a12) (fun i s => (∀ j, j < i → s.1 j = 1048576) ∧ (∀ j, j < i → s.2 j = 0)) 108 (a8, a9) ⟨lt_0, lt_0⟩
    (fun n s g => br_t (nI_le (Nat.le_refl 108) (by decide)) (h s.1 s.2 g.1 g.2))
    (fun n i s hi g hw => br_f (nI_ge (b := 108) hi (by decide)) ⟨vp_in_nI hi (by decide), nm_r (by rw [nI_clamp (by omega)]) ⟨vp_in_nI hi (by decide), nm_r (by rw [nI_clamp (by omega)]) (nm_r (nI_1 i) (hw (upd s.1 i 1048576, upd s.2 i 0) ⟨nr_fill (f := fun _ => 1048576) g.1 rfl, nr_fill (f := fun _ => 0) g.2 rfl⟩))⟩⟩)
end
/-! ===== solve ===== -/
def nr_u (c p : Nat) : Nat := if c % 2 = 1 then p else 200
def nr_v (c p t : Nat) : Nat := if c < 2 then 200 else if t = 0 then 24 else if c = 3 ∧ t = 1 then 24 + p else if c = 3 ∧ t = 4 ∧ p = 0 then 24 else 200
def nr_d (t : Nat) : Nat := if t = 0 then 1 else if t = 1 then 2 else 3
section
variable {P cs gs os sv : Int32} {a1 a2 a3 a4 a5 a6 a7 a8 a9 a10 a11 a12 : Nat → Int32}
/-- the rounds, behind the first offers -/
theorem nr_rounds {post : St2 → Prop} {c p t : Nat} (hC : nr_C c p t cs a1 a2 a3 a4) (hK : nr_K (nr_u c p) (if 2 ≤ c ∧ t = 0 then 24 else 200) 1 a8) (hZ : nr_Z 200 200 a9)
    (h : ∀ b8 b9, nr_K (nr_u c p) (nr_v c p t) (nr_d t) b8 → post (P, cs, gs, os, sv, a1, a2, a3, a4, a5, a6, a7, b8, b9, a10, a11, a12)) : ∃ fu, wX_solve_87 post fu (nI 0) P cs gs os sv a1 a2 a3 a4 a5 a6 a7 a8 a9 a10 a11 a12 := by
  have hC' := hC
  obtain ⟨hc, hp, ht, hcs, c1, c2, c3, c4, hC2⟩ := hC'
  by_cases ho : c % 2 = 1
  · -- the first certificate is there
    have hu : nr_u c p = p := if_pos ho
    rw [hu] at hK h
    have z1 : nr_Z p 200 (upd a9 p 1) := nr_Zset1 hZ
    by_cases g0 : 2 ≤ c ∧ t = 0
    · -- both say a principal
      obtain ⟨g1, g2⟩ := g0
      subst g2
      rw [if_pos ⟨g1, rfl⟩] at hK
      have hv : nr_v c p 0 = 24 := by unfold nr_v; rw [if_neg (by omega), if_pos rfl]
      rw [hv] at h
      have z2 : nr_Z p 24 (upd (upd a9 p 1) 24 1) := nr_Zset2 z1
      refine ⟨3, nr_go (ce := p) (by omega) (by omega) (fun r q => nr_qU hK hZ (by omega) (by omega) (by omega) (by omega) q) (fun ψ w => nr_spread0 hC (by omega) (fun _ x => absurd x (by omega)) w) ?_⟩
      refine nr_go (ce := 24) (by omega) (by omega) (fun r q => nr_qV hK z1 (Or.inl rfl) (by omega) (by omega) (by omega) (by omega) q) (fun ψ w => nr_spread0 hC (by omega) (fun _ x => absurd x (by omega)) w) ?_
      exact nr_stop (by omega) (fun r q => nr_qE hK z2 (by omega) (by omega) q) (h _ _ hK)
    · rw [if_neg g0] at hK
      by_cases g1 : 2 ≤ c ∧ t = 1
      · obtain ⟨g1, g2⟩ := g1
        subst g2
        have hv : nr_v c p 1 = 24 + p := by unfold nr_v; rw [if_neg (by omega), if_neg (by omega), if_pos ⟨by omega, rfl⟩]
        rw [hv] at h
        have hK2 : nr_K p (24 + p) 2 (upd a8 (24 + p) (nI 2)) := nr_Kset hK (by omega)
        have z2 : nr_Z p (24 + p) (upd (upd a9 p 1) (24 + p) 1) := nr_Zset2 z1
        refine ⟨3, nr_go (ce := p) (b8 := upd a8 (24 + p) (nI 2)) (by omega) (by omega) (fun r q => nr_qU hK hZ (by omega) (by omega) (by omega) (by omega) q) (fun ψ w => nr_spread1 hC g1 (nr_Ku hK (by omega)) ?_ w) ?_⟩
        · rw [nr_Kn hK (by omega) (by omega) (by omega)]
          decide
        · refine nr_go (ce := 24 + p) (by omega) (by omega) (fun r q => nr_qV hK2 z1 (Or.inl rfl) (by omega) (by omega) (by omega) (by omega) q) (fun ψ w => nr_spread0 hC (by omega) (fun _ _ => ⟨fun _ x => absurd x.1 (by omega), fun x => absurd x (by omega), fun x => absurd x (by omega)⟩) w) ?_
          exact nr_stop (by omega) (fun r q => nr_qE hK2 z2 (by omega) (by omega) q) (h _ _ hK2)
      · by_cases g4 : 2 ≤ c ∧ t = 4 ∧ p = 0
        · obtain ⟨g4, g5, g6⟩ := g4
          subst g5
          subst g6
          have hv : nr_v c 0 4 = 24 := by unfold nr_v; rw [if_neg (by omega), if_neg (by omega), if_neg (by omega), if_pos ⟨by omega, rfl, rfl⟩]
          rw [hv] at h
          have hK2 : nr_K 0 24 3 (upd a8 24 (nI 3)) := nr_Kset hK (by omega)
          have z2 : nr_Z 0 24 (upd (upd a9 0 1) 24 1) := nr_Zset2 z1
          refine ⟨3, nr_go (ce := 0) (b8 := upd a8 24 (nI 3)) (by omega) (by omega) (fun r q => nr_qU hK hZ (by omega) (by omega) (by omega) (by omega) q) (fun ψ w => nr_spread4 hC g4 (nr_Ku hK (by omega)) ?_ (by rw [pk_us]; decide) (fun y hy hy6 => (z1 y (by omega)).mpr ⟨by omega, by omega⟩) w) ?_⟩
          · rw [nr_Kn hK (by omega) (by omega) (by omega)]
            decide
          · refine nr_go (ce := 24) (by omega) (by omega) (fun r q => nr_qV hK2 z1 (Or.inl rfl) (by omega) (by omega) (by omega) (by omega) q) (fun ψ w => nr_spread0 hC (by omega) (fun _ _ => ⟨fun x => absurd x (by omega), fun _ x => absurd x (by omega), fun _ x => absurd x (by decide)⟩) w) ?_
            exact nr_stop (by omega) (fun r q => nr_qE hK2 z2 (by omega) (by omega) q) (h _ _ hK2)
        · -- nothing follows
          have hv : nr_v c p t = 200 := by
            unfold nr_v
            by_cases g : c < 2
            · rw [if_pos g]
            · rw [if_neg g, if_neg (by omega), if_neg (by omega), if_neg (by omega)]
          rw [hv] at h
          have hK' : nr_K p 200 (nr_d t) a8 := by
            intro j hj
            rw [hK j hj, if_neg (show ¬ j = 200 by omega), if_neg (show ¬ j = 200 by omega)]
          have hfs : nr_f t = if t ≤ 3 then t - 1 else (t - 4) / 3 := rfl
          have hss : nr_s t = (t - 4) % 3 := rfl
          refine ⟨2, nr_go (ce := p) (by omega) (by omega) (fun r q => nr_qU hK hZ (by omega) (by omega) (by omega) (by omega) q) (fun ψ w => nr_spread0 hC (by omega) (fun x2 x0 => ⟨fun x3 x => ?_, fun x3 x4 x5 y hy => ?_, fun x3 x4 => ?_⟩) w) ?_⟩
          · rw [hfs, if_pos x3] at x
            omega
          · rw [hfs, if_neg (by omega), show p % 18 / 6 = 0 by omega] at x5
            rw [show p % 6 = p by omega, hss]
            refine (z1 _ ?_).mpr ⟨?_, ?_⟩ <;> omega
          · rw [hss, show p % 18 / 6 = 0 by omega] at x4
            rw [hfs, if_neg (by omega), show p / 18 = 0 by omega]
            refine (z1 _ ?_).mpr ⟨?_, ?_⟩ <;> omega
          · exact nr_stop (by omega) (fun r q => nr_qE hK' z1 (by omega) (by omega) q) (h _ _ hK')
  · have hu : nr_u c p = 200 := if_neg ho
    rw [hu] at hK h
    by_cases g0 : 2 ≤ c ∧ t = 0
    · obtain ⟨g1, g2⟩ := g0
      subst g2
      rw [if_pos ⟨g1, rfl⟩] at hK
      have hv : nr_v c p 0 = 24 := by unfold nr_v; rw [if_neg (by omega), if_pos rfl]
      rw [hv] at h
      have z2 : nr_Z 200 24 (upd a9 24 1) := nr_Zset2 hZ
      refine ⟨2, nr_go (ce := 24) (by omega) (by omega) (fun r q => nr_qV hK hZ (Or.inl rfl) (by omega) (by omega) (by omega) (by omega) q) (fun ψ w => nr_spread0 hC (by omega) (fun _ x => absurd x (by omega)) w) ?_⟩
      exact nr_stop (by omega) (fun r q => nr_qE hK z2 (by omega) (by omega) q) (h _ _ hK)
    · rw [if_neg g0] at hK
      have hv : nr_v c p t = 200 := by
        unfold nr_v
        by_cases g : c < 2
        · rw [if_pos g]
        · rw [if_neg g, if_neg (by omega), if_neg (by omega), if_neg (by omega)]
      rw [hv] at h
      have hK' : nr_K 200 200 (nr_d t) a8 := by
        intro j hj
        rw [hK j hj, if_neg (show ¬ j = 200 by omega), if_neg (show ¬ j = 200 by omega), if_neg (show ¬ j = 200 by omega), if_neg (show ¬ j = 200 by omega)]
      exact ⟨1, nr_stop (by omega) (fun r q => nr_qE hK' hZ (by omega) (by omega) q) (h _ _ hK')⟩
theorem nr_solve {post : St2 → Prop} {c p t : Nat} (hC : nr_C c p t cs a1 a2 a3 a4) (h : ∀ b8 b9, nr_K (nr_u c p) (nr_v c p t) (nr_d t) b8 → post (P, cs, gs, os, 1, a1, a2, a3, a4, a5, a6, a7, b8, b9, a10, a11, a12)) : wpX_solve post (P, cs, gs, os, 0, a1, a2, a3, a4, a5, a6, a7, a8, a9, a10, a11, a12) := by
  refine br_t rfl (nr_15 (fun b8 b9 h8 h9 => ?_))
  have hC' := hC
  obtain ⟨hc, hp, ht, hcs, c1, c2, c3, c4, hC2⟩ := hC'
  have hb : ∀ i, 2 ≤ i → i < 10 → ((cs >>> (nI i &&& 31)) &&& 1) = 0 := by rw [hcs]; exact nr_bitH hc
  have hZ : nr_Z 200 200 b9 := fun j hj => ⟨fun _ => ⟨by omega, by omega⟩, fun _ => h9 j hj⟩
  have hK : nr_K 200 200 1 b8 := fun j hj => by rw [h8 j hj, if_neg (by omega), if_neg (by omega)]
  have hE : ∀ {e8 : Nat → Int32}, nr_K (nr_u c p) (if 2 ≤ c ∧ t = 0 then 24 else 200) 1 e8 → ∃ fu, wX_solve_87 post fu (nI 0) P cs gs os 1 a1 a2 a3 a4 a5 a6 a7 e8 b9 a10 a11 a12 := fun k => nr_rounds hC k hZ h
  by_cases ho : c % 2 = 1
  · have hu : nr_u c p = p := if_pos ho
    rw [hu] at hE
    have hK1 : nr_K p 200 1 (upd b8 p (nI 1)) := nr_KsetU hK
    refine ⟨11, nr_44a hC ho (h8 p (by omega)) ?_⟩
    by_cases g0 : 2 ≤ c ∧ t = 0
    · obtain ⟨g1, g2⟩ := g0
      subst g2
      rw [if_pos ⟨g1, rfl⟩] at hE
      refine nr_44b hC g1 ?_ (nr_44s hb (hE (nr_Kset hK1 (by omega))) 8 2 (by omega) rfl)
      rw [pk_un (by omega)]
      exact h8 24 (by omega)
    · rw [if_neg g0] at hE
      exact nr_44b0 hC (by omega) (nr_44s hb (hE hK1) 8 2 (by omega) rfl)
  · have hu : nr_u c p = 200 := if_neg ho
    rw [hu] at hE
    refine ⟨11, nr_44a0 hC ho ?_⟩
    by_cases g0 : 2 ≤ c ∧ t = 0
    · obtain ⟨g1, g2⟩ := g0
      subst g2
      rw [if_pos ⟨g1, rfl⟩] at hE
      exact nr_44b hC g1 (h8 24 (by omega)) (nr_44s hb (hE (nr_Kset hK (by omega))) 8 2 (by omega) rfl)
    · rw [if_neg g0] at hE
      exact nr_44b0 hC (by omega) (nr_44s hb (hE hK) 8 2 (by omega) rfl)
theorem nr_solved {post : St2 → Prop} (h : post (P, cs, gs, os, 1, a1, a2, a3, a4, a5, a6, a7, a8, a9, a10, a11, a12)) : wpX_solve post (P, cs, gs, os, 1, a1, a2, a3, a4, a5, a6, a7, a8, a9, a10, a11, a12) := br_f (by decide) h
end
end
section
/-! ===== what the answers are ===== -/
def nr_R (v d x : Nat) : Int32 := if v = 24 + x then nI d else -1
def nr_W (v : Nat) : Int32 := if v = 200 then 0 else (1 : Int32) <<< (nI (v - 24) &&& 31)
def nr_mb (f : Nat → Bool) : Nat → Int32
  | 0 => 0
  | n + 1 => if f n = true then nr_mb f n else nr_mb f n ||| ((1 : Int32) <<< (nI n &&& 31))
theorem nr_mbc {f g : Nat → Bool} : ∀ n, (∀ x, x < n → f x = g x) → nr_mb f n = nr_mb g n
  | 0, _ => rfl
  | n + 1, h => by
    unfold nr_mb
    rw [h n (Nat.lt_succ_self n), nr_mbc n (fun x hx => h x (by omega))]
theorem nr_mb1 : ∀ w, w < 6 → nr_mb (fun x => decide (x ≠ w)) 6 = (1 : Int32) <<< (nI w &&& 31) := by decide +kernel
theorem nr_mb0 : nr_mb (fun _ => true) 6 = 0 := by decide +kernel
theorem nr_Kat {u v d x : Nat} {a : Nat → Int32} (h : nr_K u v d a) (hu : u < 6 ∨ 108 ≤ u) (hx : x < 6) : a (24 + x) = if v = 24 + x then nI d else 1048576 := by
  rw [h (24 + x) (by omega), if_neg (by omega)]
  by_cases e : v = 24 + x
  · rw [if_pos e, if_pos e.symm]
  · rw [if_neg e, if_neg (fun z => e z.symm)]
theorem nr_dFar {d : Nat} (hd : d ≤ 4) : ¬ (1048576 : Int32) ≤ nI d := nI_ge (b := 1048576) (by omega) (by decide)
theorem nr_setV {u v d : Nat} {a : Nat → Int32} (h : nr_K u v d a) (hu : u < 6 ∨ 108 ≤ u) (hd : d ≤ 4) (hv : v = 200 ∨ (24 ≤ v ∧ v < 30)) : nr_mb (fun x => decide ((1048576 : Int32) ≤ a (1 * 18 + 1 * 6 + x))) 6 = nr_W v := by
  unfold nr_W
  by_cases e : v = 200
  · rw [if_pos e, ← nr_mb0]
    refine nr_mbc 6 (fun x hx => decide_eq_true ?_)
    have g := nr_Kat h hu hx
    rw [if_neg (by omega)] at g
    show (1048576 : Int32) ≤ a (24 + x)
    rw [g]
    exact Int32.le_refl _
  · rw [if_neg e, ← nr_mb1 (v - 24) (by omega)]
    refine nr_mbc 6 (fun x hx => ?_)
    have g := nr_Kat h hu hx
    show decide ((1048576 : Int32) ≤ a (24 + x)) = decide (x ≠ v - 24)
    rw [g]
    by_cases e2 : v = 24 + x
    · rw [if_pos e2, decide_eq_false (nr_dFar hd), decide_eq_false (fun z => z (by omega))]
    · rw [if_neg e2, decide_eq_true (Int32.le_refl _), decide_eq_true (by omega)]
theorem nr_setU {u v d : Nat} {a : Nat → Int32} (h : nr_K u v d a) (hu : u < 6) (hv : 24 ≤ v) : nr_mb (fun x => decide ((1048576 : Int32) ≤ a (0 * 18 + 0 * 6 + x))) 6 = (1 : Int32) <<< (nI u &&& 31) := by
  rw [← nr_mb1 u hu]
  refine nr_mbc 6 (fun x hx => ?_)
  show decide ((1048576 : Int32) ≤ a (0 * 18 + 0 * 6 + x)) = decide (x ≠ u)
  rw [show 0 * 18 + 0 * 6 + x = x by omega]
  by_cases e : x = u
  · rw [e, nr_Ku h (by omega), decide_eq_false (nr_dFar (by omega)), decide_eq_false (fun z => z rfl)]
  · rw [nr_Kn h (by omega) e (by omega), decide_eq_true (Int32.le_refl _), decide_eq_true e]
theorem nr_setU0 {v d : Nat} {a : Nat → Int32} (h : nr_K 200 v d a) (hv : 24 ≤ v) : nr_mb (fun x => decide ((1048576 : Int32) ≤ a (0 * 18 + 0 * 6 + x))) 6 = 0 := by
  rw [← nr_mb0]
  refine nr_mbc 6 (fun x hx => decide_eq_true ?_)
  show (1048576 : Int32) ≤ a (0 * 18 + 0 * 6 + x)
  rw [show 0 * 18 + 0 * 6 + x = x by omega, nr_Kn h (by omega) (by omega) (by omega)]
  exact Int32.le_refl _
theorem nr_uB {c p : Nat} (hp : p < 4) : nr_u c p < 6 ∨ 108 ≤ nr_u c p := by
  unfold nr_u
  by_cases e : c % 2 = 1
  · rw [if_pos e]; omega
  · rw [if_neg e]; omega
theorem nr_vB {c p t : Nat} (hp : p < 4) : nr_v c p t = 200 ∨ (24 ≤ nr_v c p t ∧ nr_v c p t < 30) := by
  unfold nr_v
  by_cases e1 : c < 2
  · rw [if_pos e1]; omega
  · rw [if_neg e1]
    by_cases e2 : t = 0
    · rw [if_pos e2]; omega
    · rw [if_neg e2]
      by_cases e3 : c = 3 ∧ t = 1
      · rw [if_pos e3]; omega
      · rw [if_neg e3]
        by_cases e4 : c = 3 ∧ t = 4 ∧ p = 0
        · rw [if_pos e4]; omega
        · rw [if_neg e4]; omega
theorem nr_dB (t : Nat) : 1 ≤ nr_d t ∧ nr_d t ≤ 3 := by
  unfold nr_d
  by_cases e : t = 0
  · rw [if_pos e]; omega
  · rw [if_neg e]
    by_cases e1 : t = 1
    · rw [if_pos e1]; omega
    · rw [if_neg e1]; omega
section
variable {P cs gs os sv : Int32} {a1 a2 a3 a4 a5 a6 a7 a8 a9 a10 a11 a12 : Nat → Int32}
/-! ===== cost, members ===== -/
theorem nr_cost {post : Int32 → St2 → Prop} {u v d x : Nat} (hu : u < 6 ∨ 108 ≤ u) (hd : d ≤ 4) (hx : x < 4)
    (hs : ∀ ψ : St2 → Prop, (∀ b8 b9, nr_K u v d b8 → ψ (4, cs, gs, os, 1, a1, a2, a3, a4, a5, a6, a7, b8, b9, a10, a11, a12)) → wpX_solve ψ (4, cs, gs, os, sv, a1, a2, a3, a4, a5, a6, a7, a8, a9, a10, a11, a12))
    (h : ∀ b8 b9, nr_K u v d b8 → post (nr_R v d x) (4, cs, gs, os, 1, a1, a2, a3, a4, a5, a6, a7, b8, b9, a10, a11, a12)) : wpX_cost post (4, cs, gs, os, sv, a1, a2, a3, a4, a5, a6, a7, a8, a9, a10, a11, a12) (nI 1) (nI 1) (nI x) := by
  unfold wpX_cost
  refine nr_isP (k := 1) (by omega) (br_f (by decide) ?_)
  refine nr_isN (k := 1) (by omega) (br_f (by decide) ?_)
  refine nr_isP hx (br_f (by decide) ?_)
  refine hs _ (fun b8 b9 hK => ?_)
  have g := h b8 b9 hK
  have k := nr_Kat hK hu (show x < 6 by omega)
  unfold nr_R at g
  show vp_in (nI 1 * 18 + nI 1 * 6 + nI x) 108 ∧ _
  rw [nr_cell, nI_clamp (by omega), show 1 * 18 + 1 * 6 + x = 24 + x by omega]
  refine ⟨vp_in_nI (by omega) (by decide), nm_r k ?_⟩
  by_cases e : v = 24 + x
  · rw [if_pos e] at g ⊢
    exact br_f (nr_dFar hd) g
  · rw [if_neg e] at g ⊢
    exact br_t (Int32.le_refl _) g
theorem nr_mset {post : Int32 → Prop} {k m : Nat} (hk : k < 6) (hm : m < 3) (h : post (nr_mb (fun x => decide ((1048576 : Int32) ≤ a8 (k * 18 + m * 6 + x))) 6)) : wpX_memberSet post (P, cs, gs, os, sv, a1, a2, a3, a4, a5, a6, a7, a8, a9, a10, a11, a12) (nI k) (nI m) := by
  refine loop_0 (σ := Int32) (fun n i s => wX_memberSet_5 post (nI k) (nI m) P cs gs os sv a1 a2 a3 a4 a5 a6 a7 a8 a9 a10 a11 a12 n s (nI i)) (fun i s => s = nr_mb (fun x => decide ((1048576 : Int32) ≤ a8 (k * 18 + m * 6 + x))) i) 6 0 rfl ?_ ?_
  · intro n s g
    subst g
    exact br_t (nI_le (Nat.le_refl 6) (by decide)) h
  · intro n i s hi g hw
    refine br_f (nI_ge (b := 6) hi (by decide)) ?_
    rw [nr_cell, nI_clamp (by omega)]
    refine ⟨vp_in_nI (by omega) (by decide), br_c (fun z => nm_r (nI_1 i) (hw s ?_)) (fun z => nm_e (nm_r (nI_1 i) (hw _ ?_)))⟩
    · rw [g]
      exact (if_pos (decide_eq_true z)).symm
    · rw [g]
      exact (if_neg (fun w => z (of_decide_eq_true w))).symm
theorem nr_members {post : Int32 → St2 → Prop} {u v d : Nat} (hu : u < 6 ∨ 108 ≤ u) (hd : d ≤ 4) (hv : v = 200 ∨ (24 ≤ v ∧ v < 30))
    (hs : ∀ ψ : St2 → Prop, (∀ b8 b9, nr_K u v d b8 → ψ (4, cs, gs, os, 1, a1, a2, a3, a4, a5, a6, a7, b8, b9, a10, a11, a12)) → wpX_solve ψ (4, cs, gs, os, sv, a1, a2, a3, a4, a5, a6, a7, a8, a9, a10, a11, a12))
    (h : ∀ b8 b9, nr_K u v d b8 → post (nr_W v) (4, cs, gs, os, 1, a1, a2, a3, a4, a5, a6, a7, b8, b9, a10, a11, a12)) : wpX_members post (4, cs, gs, os, sv, a1, a2, a3, a4, a5, a6, a7, a8, a9, a10, a11, a12) (nI 1) (nI 1) := by
  unfold wpX_members
  refine nr_isP (k := 1) (by omega) (br_f (by decide) ?_)
  refine nr_isN (k := 1) (by omega) (br_f (by decide) ?_)
  refine hs _ (fun b8 b9 hK => ?_)
  refine nr_mset (k := 1) (m := 1) (by omega) (by omega) ?_
  rw [nr_setV hK hu hd hv]
  exact h b8 b9 hK
/-! ===== denoteCost ===== -/
theorem nr_den0 {post : Int32 → Prop} {q : Int32} (h : post 0) : wpX_denoteCost post (P, cs, gs, os, sv, a1, a2, a3, a4, a5, a6, a7, a8, a9, a10, a11, a12) q (nI 0) q := br_t rfl (br_t rfl h)
theorem nr_den3 {post : Int32 → Prop} {q t x : Nat} (hq : q < 6) (h0 : 0 < t) (h3 : t ≤ 3) (hx : x < 6) (h : post (a8 (q * 18 + nr_f t * 6 + x))) : wpX_denoteCost post (P, cs, gs, os, sv, a1, a2, a3, a4, a5, a6, a7, a8, a9, a10, a11, a12) (nI q) (nI t) (nI x) := by
  have hf := (nr_fs t (by omega)).1
  refine br_f (nI_ne0 h0 (by omega)) (nr_fn (by omega) h0 (br_f (nI_nlt (a := 3) h3 (by decide)) ?_))
  rw [nr_cell, nI_clamp (by omega)]
  exact ⟨vp_in_nI (by omega) (by decide), h⟩
theorem nr_den4 {post : Int32 → Prop} (hK : nr_K 0 24 3 a8) (h : post (nI 2)) : wpX_denoteCost post (P, cs, gs, os, sv, a1, a2, a3, a4, a5, a6, a7, a8, a9, a10, a11, a12) (nI 0) (nI 4) (nI 0) := by
  refine br_f (by decide) (nr_fn (t := 4) (by omega) (by omega) (br_t (by decide) (nr_sn (t := 4) (by omega) (by omega) ?_)))
  refine loop_0 (σ := Int32) (fun n i s => wX_denoteCost_58 post (nI 0) (nI 0) (nI 0) (nI 0) P cs gs os sv a1 a2 a3 a4 a5 a6 a7 a8 a9 a10 a11 a12 n s (nI i)) (fun i s => s = if i = 0 then 1048576 else nI 2) 6 1048576 rfl ?_ ?_
  · intro n s g
    rw [if_neg (by omega)] at g
    subst g
    exact br_t (nI_le (Nat.le_refl 6) (by decide)) h
  · intro n i s hi g hw
    refine br_f (nI_ge (b := 6) hi (by decide)) ?_
    rw [nr_cell, nr_cell, nI_clamp (by omega), nI_clamp (by omega), show 0 * 18 + 0 * 6 + i = i by omega, show i * 18 + 0 * 6 + 0 = i * 18 by omega]
    refine ⟨vp_in_nI (by omega) (by decide), vp_in_nI (by omega) (by decide), ?_⟩
    by_cases e : i = 0
    · subst e
      rw [if_pos rfl] at g
      subst g
      rw [show 0 * 18 = 0 from rfl, nr_Ku hK (by omega)]
      exact nm_e (br_f (by decide) (br_f (by decide) (nm_r (nI_1 0) (hw _ (by rw [if_neg (by omega)]; rfl)))))
    · rw [nr_Kn hK (by omega) e (by omega), nr_Kn (j := i * 18) hK (by omega) (by omega) (by omega)]
      exact nm_e (br_t (by decide) (nm_r (nI_1 i) (hw _ (by rw [g, if_neg e, if_neg (by omega)]))))
/-! ===== witness ===== -/
theorem nr_witness {post : Int32 → St2 → Prop} {c p t x : Nat} (hC : nr_C c p t cs a1 a2 a3 a4) (ho : c % 2 = 1) (hx : x < 4)
    (hs : ∀ ψ : St2 → Prop, (∀ b8 b9, nr_K (nr_u c p) (nr_v c p t) (nr_d t) b8 → ψ (4, cs, gs, os, 1, a1, a2, a3, a4, a5, a6, a7, b8, b9, a10, a11, a12)) → wpX_solve ψ (4, cs, gs, os, sv, a1, a2, a3, a4, a5, a6, a7, a8, a9, a10, a11, a12))
    (h : ∀ b8 b9, nr_K (nr_u c p) (nr_v c p t) (nr_d t) b8 → post (nr_R (nr_v c p t) 1 x) (4, cs, gs, os, 1, a1, a2, a3, a4, a5, a6, a7, b8, b9, a10, a11, a12)) : wpX_witness post (4, cs, gs, os, sv, a1, a2, a3, a4, a5, a6, a7, a8, a9, a10, a11, a12) (nI 1) (nI 1) (nI x) := by
  obtain ⟨hc, hp, ht, hcs, c1, c2, c3, c4, hC2⟩ := hC
  have hd := nr_dB t
  unfold wpX_witness
  refine nr_cost (nr_uB hp) (by omega) hx hs (fun b8 b9 hK => ?_)
  have g := h b8 b9 hK
  dsimp only
  unfold nr_R at g ⊢
  by_cases e : nr_v c p t = 24 + x
  · rw [if_pos e] at g ⊢
    have h2 : 2 ≤ c := by
      by_cases z : c < 2
      · unfold nr_v at e
        rw [if_pos z] at e
        omega
      · omega
    obtain ⟨d1, d2, d3, d4⟩ := hC2 h2
    have e0 : a1 (nI 0).toNatClampNeg = nI 0 := c1
    have e1 : a1 (nI 1).toNatClampNeg = nI 1 := d1
    have e2 : a2 (nI 1).toNatClampNeg = nI 1 := d2
    have e3 : a3 (nI 1).toNatClampNeg = nI 0 := d3
    have e4 : a4 (nI 1).toNatClampNeg = nI t := d4
    have den : ∀ ψ : Int32 → Prop, ψ (nI (nr_d t) - 1) → wpX_denoteCost ψ (4, cs, gs, os, 1, a1, a2, a3, a4, a5, a6, a7, b8, b9, a10, a11, a12) (nI 0) (nI t) (nI x) := by
      intro ψ w
      have hc3 : c = 3 := by omega
      have hu : nr_u c p = p := if_pos ho
      unfold nr_v at e
      rw [if_neg (by omega)] at e
      by_cases t0 : t = 0
      · subst t0
        rw [if_pos rfl] at e
        have : x = 0 := by omega
        subst this
        exact nr_den0 w
      · rw [if_neg t0] at e
        by_cases t1 : t = 1
        · subst t1
          rw [if_pos ⟨hc3, rfl⟩] at e
          have : x = p := by omega
          subst this
          refine nr_den3 (by omega) (by omega) (by omega) (by omega) ?_
          rw [show 0 * 18 + nr_f 1 * 6 + x = x by show 0 * 18 + 0 * 6 + x = x; omega]
          rw [hu] at hK
          rw [nr_Ku hK (by omega)]
          exact w
        · rw [if_neg (by omega)] at e
          by_cases t4 : c = 3 ∧ t = 4 ∧ p = 0
          · obtain ⟨_, t4, p0⟩ := t4
            subst t4
            subst p0
            rw [if_pos ⟨hc3, rfl, rfl⟩] at e
            have : x = 0 := by omega
            subst this
            have hv : nr_v c 0 4 = 24 := by rw [hc3]; rfl
            rw [hu, hv] at hK
            exact nr_den4 hK w
          · rw [if_neg t4] at e
            omega
    refine br_t (nI_pos' (by omega)) ⟨2, br_f (by decide) (nr_has1 (i := 0) (by omega) (by rw [hcs]; exact nr_bit0 hc ho) (br_f (by decide) ⟨vp_in_nI (n := 0) (by omega) (by decide), br_f ?_ (nm_r (nI_1 0) ?_)⟩))⟩
    · show ¬ a1 (nI 0).toNatClampNeg = nI 1
      rw [e0]
      decide
    · refine br_f (by decide) (nr_has1 (i := 1) (by omega) (by rw [hcs]; exact nr_bit1 hc h2) (br_f (by decide) ⟨vp_in_nI (by omega) (by decide), br_t e1 ⟨vp_in_nI (by omega) (by decide), br_t e2 ⟨vp_in_nI (by omega) (by decide), vp_in_nI (by omega) (by decide), ?_⟩⟩⟩))
      rw [e3, e4]
      exact den _ (br_t rfl g)
  · rw [if_neg e] at g ⊢
    exact br_f (by decide) g
end
end
section
/-! ===== nearest: what its answer is ===== -/
def nr_N (m : Int32) (a : Nat → Int32) (i : Nat) (r : Int32) : Prop :=
  (r = -1 ∧ ∀ j, j < i → ((m >>> (nI j &&& 31)) &&& 1) = 0 → (1048576 : Int32) ≤ a j) ∨
  (∃ y, y < i ∧ r = nI y ∧ ((m >>> (nI y &&& 31)) &&& 1) = 0 ∧ ¬ (1048576 : Int32) ≤ a y)
theorem nr_Nn {m r : Int32} {a : Nat → Int32} {i : Nat} (h : nr_N m a i r) (g : ((m >>> (nI i &&& 31)) &&& 1) = 0 → (1048576 : Int32) ≤ a i) : nr_N m a (i + 1) r := by
  rcases h with ⟨e, hq⟩ | ⟨y, hy, e, h1, h2⟩
  · exact Or.inl ⟨e, lt_s hq g⟩
  · exact Or.inr ⟨y, by omega, e, h1, h2⟩
theorem nr_dn : ∀ m, m < 64 → ∀ y, y < 6 → nI m ||| ((1 : Int32) <<< (nI y &&& 31)) = nI (m ||| 2 ^ y) ∧ (m ||| 2 ^ y) < 64 := by decide +kernel
theorem nr_dn2 : ∀ m, m < 64 → ∀ y, y < 6 → m / 4 % 2 = 1 → (m ||| 2 ^ y) / 4 % 2 = 1 := by decide +kernel
theorem nr_dn3 : ∀ m, m < 64 → m / 4 % 2 = 1 → ¬ ((nI m >>> (nI 2 &&& 31)) &&& 1) = 0 := by decide +kernel
theorem nr_gs : ∀ i, i < 6 → 1 ≤ i → ((nI 1 >>> (nI i &&& 31)) &&& 1) = 0 := by decide +kernel
section
variable {P cs gs os sv : Int32} {a1 a2 a3 a4 a5 a6 a7 a8 a9 a10 a11 a12 : Nat → Int32}
theorem nr_near {post : Int32 → Prop} {m : Int32} (h : ∀ r, nr_N m a10 6 r → post r) : wpX_nearest post (P, cs, gs, os, sv, a1, a2, a3, a4, a5, a6, a7, a8, a9, a10, a11, a12) m := by
  refine loop_0 (σ := Int32) (fun n i s => wX_nearest_4 post m P cs gs os sv a1 a2 a3 a4 a5 a6 a7 a8 a9 a10 a11 a12 n s (nI i)) (nr_N m a10) 6 (-1) (Or.inl ⟨rfl, lt_0⟩) ?_ ?_
  · intro n r hq
    exact br_t (nI_le (Nat.le_refl 6) (by decide)) (h r hq)
  · intro n i r hi hq hw
    refine br_f (nI_ge (b := 6) hi (by decide)) ?_
    rw [nI_clamp (show i < 2 ^ 31 by omega)]
    refine br_c (fun hb => ⟨vp_in_nI hi (by decide), ?_⟩) (fun hb => nm_r (nI_1 i) (hw r (nr_Nn hq (fun z => absurd z hb))))
    refine br_c (fun h8 => nm_r (nI_1 i) (hw r (nr_Nn hq (fun _ => h8)))) (fun h8 => ?_)
    have new : nr_N m a10 (i + 1) (nI i) := Or.inr ⟨i, by omega, rfl, hb, h8⟩
    have hq' := hq
    rcases hq' with ⟨e, _⟩ | ⟨y, hy, e, hb2, h82⟩
    · subst e
      exact br_t (by decide) (nm_r (nI_1 i) (hw _ new))
    · subst e
      refine br_f (nI_pos (by omega)) ⟨vp_in_nI hi (by decide), vp_in_nI (by omega) (by decide), ?_⟩
      exact br_c (fun _ => nm_r (nI_1 i) (hw (nI y) (Or.inr ⟨y, by omega, rfl, hb2, h82⟩))) (fun _ => nm_r (nI_1 i) (hw _ new))
/-! ===== passGrant ===== -/
theorem nr_84 {post : St2 → Prop} {J : Int32 → (Nat → Int32) → (Nat → Int32) → (Nat → Int32) → (Nat → Int32) → (Nat → Int32) → (Nat → Int32) → (Nat → Int32) → (Nat → Int32) → (Nat → Int32) → (Nat → Int32) → (Nat → Int32) → (Nat → Int32) → Prop} {x1 x2 x3 x6 : Int32} {i : Nat} (hi : i < 6) (h : ∀ b10, J (nI (i + 1)) a1 a2 a3 a4 a5 a6 a7 a8 a9 b10 a11 a12) : wX_passGrant_84 post J x1 x2 x3 (nI i) x6 P cs gs os sv a1 a2 a3 a4 a5 a6 a7 a8 a9 a10 a11 a12 :=
  br_c (fun _ => nm_r (nI_1 i) (h a10)) (fun _ => br_c (fun _ => nm_r (nI_1 i) (h a10)) (fun _ => ⟨vp_in_nI hi (by decide), br_c (fun _ => nm_r (nI_1 i) (h a10)) (fun _ => ⟨vp_in_nI hi (by decide), nm_e (nm_r (nI_1 i) (h _))⟩)⟩))
theorem nr_pg {post : St2 → Prop} {u v d : Nat} (hos : os = nI 1) (h6 : a6 0 = nI 1) (h7 : a7 0 = nI 2) (hK : nr_K u v d a8) (hu : u < 6 ∨ 108 ≤ u) (hd : d ≤ 3) (h11 : ∀ x, x < 6 → a11 x = 1048576)
    (h : ∀ b10 b11, (∀ x, x < 6 → b11 x = if v = 24 + x then nI (d + 1) else 1048576) → post (P, cs, gs, os, sv, a1, a2, a3, a4, a5, a6, a7, a8, a9, b10, b11, a12)) : wpX_passGrant post (P, cs, gs, os, sv, a1, a2, a3, a4, a5, a6, a7, a8, a9, a10, a11, a12) (nI 0) (nI 0) := by
  have e6 : a6 (nI 0).toNatClampNeg = nI 1 := h6
  have e7 : a7 (nI 0).toNatClampNeg = nI 2 := h7
  refine br_f (by rw [hos]; decide) ?_
  refine loop_0 (σ := (Nat → Int32) × (Nat → Int32)) (fun n i s => wX_passGrant_20 post (nI 0) (nI 0) 1 P cs gs os sv n (nI i) a1 a2 a3 a4 a5 a6 a7 a8 a9 s.1 s.2 a12) (fun i s => (∀ x, x < i → s.2 x = if v = 24 + x then nI (d + 1) else 1048576) ∧ (∀ x, i ≤ x → x < 6 → s.2 x = 1048576)) 6 (a10, a11) ⟨lt_0, fun x _ hx => h11 x hx⟩ ?_ ?_
  · intro n s g
    exact br_t (nI_le (Nat.le_refl 6) (by decide)) (h s.1 s.2 g.1)
  · intro n i s hi g hw
    obtain ⟨g1, g2⟩ := g
    refine br_f (nI_ge (b := 6) hi (by decide)) ⟨vp_in_nI (by omega) (by decide), vp_in_nI (by omega) (by decide), ?_⟩
    rw [e6, e7]
    refine nr_den3 (q := 1) (t := 2) (by omega) (by omega) (by omega) hi ?_
    rw [show 1 * 18 + nr_f 2 * 6 + i = 24 + i from rfl, nr_Kat hK hu hi]
    by_cases e : v = 24 + i
    · rw [if_pos e]
      have e2 : nI 0 + 1 + nI d = nI (d + 1) := by rw [nI_1, nI_add]; rw [show 0 + 1 + d = d + 1 by omega]
      refine nm_r e2 (br_f (nI_nlt (a := 999) (by omega) (by decide)) ⟨vp_in_nI hi (by decide), ?_⟩)
      rw [nI_clamp (show i < 2 ^ 31 by omega)]
      refine br_f ?_ ⟨vp_in_nI hi (by decide), nm_e (nr_84 hi (fun b10 => hw (b10, upd s.2 i (nI (d + 1))) ⟨nr_fill (f := fun x => if v = 24 + x then nI (d + 1) else 1048576) g1 (if_pos e).symm, fun x hx hx6 => ?_⟩))⟩
      · rw [g2 i (Nat.le_refl i) hi]
        exact nr_dFar (by omega)
      · show upd s.2 i (nI (d + 1)) x = 1048576
        rw [pk_un (by omega)]
        exact g2 x (by omega) hx6
    · rw [if_neg e]
      exact nm_e (br_t (by decide) (nr_84 hi (fun b10 => hw (b10, s.2) ⟨lt_s g1 (by rw [if_neg e]; exact g2 i (Nat.le_refl i) hi), fun x hx hx6 => g2 x (by omega) hx6⟩)))
/-! ===== followGrants ===== -/
theorem nr_74s {post : St2 → Prop} {J : Int32 → Int32 → Int32 → Int32 → Int32 → Int32 → Int32 → (Nat → Int32) → (Nat → Int32) → (Nat → Int32) → (Nat → Int32) → (Nat → Int32) → (Nat → Int32) → (Nat → Int32) → (Nat → Int32) → (Nat → Int32) → (Nat → Int32) → (Nat → Int32) → (Nat → Int32) → Prop} {x2 x4 : Int32} {k : Nat} (hgs : gs = nI 1) (h : J x2 (nI (k + 1)) P cs gs os sv a1 a2 a3 a4 a5 a6 a7 a8 a9 a10 a11 a12) : ∀ c i, 1 ≤ i → i + c = 6 → wX_followGrants_74 post J x2 (nI k) x4 (c + 1) (nI i) P cs gs os sv a1 a2 a3 a4 a5 a6 a7 a8 a9 a10 a11 a12
  | 0, i, _, e => br_t (nI_le (a := 6) (by omega) (by omega)) (nm_r (nI_1 k) h)
  | c + 1, i, hi, e => br_f (nI_ge (b := 6) (by omega) (by decide)) (br_t (by rw [hgs]; exact nr_gs i (by omega) hi) (nm_r (nI_1 i) (nr_74s hgs h c (i + 1) (by omega) (by omega))))
theorem nr_74n {post : St2 → Prop} {J : Int32 → Int32 → Int32 → Int32 → Int32 → Int32 → Int32 → (Nat → Int32) → (Nat → Int32) → (Nat → Int32) → (Nat → Int32) → (Nat → Int32) → (Nat → Int32) → (Nat → Int32) → (Nat → Int32) → (Nat → Int32) → (Nat → Int32) → (Nat → Int32) → (Nat → Int32) → Prop} {x2 : Int32} {k y : Nat} (hgs : gs = nI 1) (h5 : a5 0 = nI 2) (hy : y < 6) (ny : y ≠ 2) (h : J x2 (nI (k + 1)) P cs gs os sv a1 a2 a3 a4 a5 a6 a7 a8 a9 a10 a11 a12) : wX_followGrants_74 post J x2 (nI k) (nI y) 7 (nI 0) P cs gs os sv a1 a2 a3 a4 a5 a6 a7 a8 a9 a10 a11 a12 := by
  have e5 : a5 (nI 0).toNatClampNeg = nI 2 := h5
  refine br_f (by decide) (br_f (by rw [hgs]; decide) ⟨vp_in_nI (by omega) (by decide), ?_⟩)
  rw [e5]
  exact pk_eq 2 y (fun z => absurd z.symm ny) (fun _ => nm_r (nI_1 0) (nr_74s hgs h 5 1 (by omega) rfl))
/-- the rounds behind the first: the only grant has been followed -/
theorem nr_45r {post : St2 → Prop} (hgs : gs = nI 1) (h5 : a5 0 = nI 2) (h : post (P, cs, gs, os, sv, a1, a2, a3, a4, a5, a6, a7, a8, a9, a10, a11, a12)) : ∀ c i m, i + c = 6 → m < 64 → m / 4 % 2 = 1 → wX_followGrants_45 post (c + 1) (nI m) (nI i) P cs gs os sv a1 a2 a3 a4 a5 a6 a7 a8 a9 a10 a11 a12
  | 0, i, m, e, _, _ => br_t (nI_le (a := 6) (by omega) (by omega)) h
  | c + 1, i, m, e, hm, hb => by
    refine br_f (nI_ge (b := 6) (by omega) (by decide)) (nr_near (fun r q => ?_))
    rcases q with ⟨e1, _⟩ | ⟨y, hy, e1, hb2, _⟩
    · subst e1
      exact br_f (by decide) h
    · subst e1
      have ny : y ≠ 2 := fun z => by
        rw [z] at hb2
        exact nr_dn3 m hm hb hb2
      exact br_t (nI_pos' (by omega)) (nm_r (nr_dn m hm y hy).1 ⟨7, nr_74n hgs h5 hy ny (nr_45r hgs h5 h c (i + 1) _ (by omega) (nr_dn m hm y hy).2 (nr_dn2 m hm y hy hb))⟩)
theorem nr_fg {post : St2 → Prop} {u v d : Nat} (hgs : gs = nI 1) (hos : os = nI 1) (h5 : a5 0 = nI 2) (h6 : a6 0 = nI 1) (h7 : a7 0 = nI 2) (hu : u < 6 ∨ 108 ≤ u) (hd : d ≤ 3)
    (hs : ∀ ψ : St2 → Prop, (∀ b8 b9, nr_K u v d b8 → ψ (4, cs, gs, os, 1, a1, a2, a3, a4, a5, a6, a7, b8, b9, a10, a11, a12)) → wpX_solve ψ (4, cs, gs, os, sv, a1, a2, a3, a4, a5, a6, a7, a8, a9, a10, a11, a12))
    (h : ∀ b8 b9 b10 b11, nr_K u v d b8 → (∀ x, x < 6 → b11 x = if v = 24 + x then nI (d + 1) else 1048576) → post (4, cs, gs, os, 1, a1, a2, a3, a4, a5, a6, a7, b8, b9, b10, b11, a12)) : wpX_followGrants post (4, cs, gs, os, sv, a1, a2, a3, a4, a5, a6, a7, a8, a9, a10, a11, a12) (nI 2) := by
  unfold wpX_followGrants
  refine hs _ (fun b8 b9 hK => ?_)
  refine loop_0 (σ := (Nat → Int32) × (Nat → Int32)) (fun n i s => wX_followGrants_6 post (nI 2) 4 cs gs os 1 n (nI i) a1 a2 a3 a4 a5 a6 a7 b8 b9 s.1 s.2 a12) (fun i s => (∀ j, j < i → s.1 j = 1048576) ∧ (∀ j, j < i → s.2 j = 1048576)) 6 (a10, a11) ⟨lt_0, lt_0⟩ ?_ ?_
  · intro n s g
    obtain ⟨g1, g2⟩ := g
    refine br_t (nI_le (Nat.le_refl 6) (by decide)) ⟨vp_in_nI (by omega) (by decide), nm_r (by rw [nI_clamp (by omega)]) ⟨7, ?_⟩⟩
    refine br_f (by decide) (nr_near (fun r q => ?_))
    have hr : r = nI 2 := by
      rcases q with ⟨_, q⟩ | ⟨y, hy, e, _, q⟩
      · have w := q 2 (by omega) (by decide)
        rw [pk_us] at w
        exact absurd w (by decide)
      · by_cases z : y = 2
        · rw [e, z]
        · rw [pk_un z, g1 y hy] at q
          exact absurd (Int32.le_refl _) q
    subst hr
    refine br_t (by decide) (nm_r (show (0 : Int32) ||| ((1 : Int32) <<< (nI 2 &&& 31)) = nI 4 by decide) ⟨7, ?_⟩)
    have e5 : a5 (nI 0).toNatClampNeg = nI 2 := h5
    have e10 : upd s.1 2 0 (nI 2).toNatClampNeg = nI 0 := pk_us
    refine br_f (by decide) (br_f (by rw [hgs]; decide) ⟨vp_in_nI (n := 0) (by omega) (by decide), br_t e5 ⟨vp_in_nI (by omega) (by decide), ?_⟩⟩)
    rw [e10]
    refine nr_pg hos h6 h7 hK hu hd g2 (fun b10 b11 h11 => nm_r (nI_1 0) (nr_74s (k := 0) hgs ?_ 5 1 (by omega) rfl))
    exact nr_45r hgs h5 (h b8 b9 b10 b11 hK h11) 5 1 4 rfl (by omega) rfl
  · intro n i s hi g hw
    exact br_f (nI_ge (b := 6) hi (by decide)) ⟨vp_in_nI hi (by decide), nm_r (by rw [nI_clamp (by omega)]) ⟨vp_in_nI hi (by decide), nm_r (by rw [nI_clamp (by omega)]) (nm_r (nI_1 i) (hw (upd s.1 i 1048576, upd s.2 i 1048576) ⟨nr_fill (f := fun _ => 1048576) g.1 rfl, nr_fill (f := fun _ => 1048576) g.2 rfl⟩))⟩⟩
theorem nr_trust {post : Int32 → St2 → Prop} {u v d x : Nat} (hgs : gs = nI 1) (hos : os = nI 1) (h5 : a5 0 = nI 2) (h6 : a6 0 = nI 1) (h7 : a7 0 = nI 2) (hu : u < 6 ∨ 108 ≤ u) (hd : d ≤ 3) (hx : x < 4)
    (hs : ∀ ψ : St2 → Prop, (∀ b8 b9, nr_K u v d b8 → ψ (4, cs, gs, os, 1, a1, a2, a3, a4, a5, a6, a7, b8, b9, a10, a11, a12)) → wpX_solve ψ (4, cs, gs, os, sv, a1, a2, a3, a4, a5, a6, a7, a8, a9, a10, a11, a12))
    (h : ∀ b8 b9 b10 b11, nr_K u v d b8 → post (nr_R v (d + 1) x) (4, cs, gs, os, 1, a1, a2, a3, a4, a5, a6, a7, b8, b9, b10, b11, a12)) : wpX_trustCost post (4, cs, gs, os, sv, a1, a2, a3, a4, a5, a6, a7, a8, a9, a10, a11, a12) (nI 2) (nI x) := by
  unfold wpX_trustCost
  refine nr_isP (k := 2) (by omega) (br_f (by decide) ?_)
  refine nr_isP hx (br_f (by decide) ?_)
  refine nr_fg hgs hos h5 h6 h7 hu hd hs (fun b8 b9 b10 b11 hK h11 => ?_)
  have g := h b8 b9 b10 b11 hK
  dsimp only
  rw [nI_clamp (show x < 2 ^ 31 by omega), h11 x (by omega)]
  unfold nr_R at g
  refine ⟨vp_in_nI (by omega) (by decide), ?_⟩
  by_cases e : v = 24 + x
  · rw [if_pos e] at g ⊢
    exact br_f (nr_dFar (by omega)) ⟨vp_in_nI (by omega) (by decide), g⟩
  · rw [if_neg e] at g ⊢
    exact br_t (Int32.le_refl _) g
/-! ===== matters ===== -/
theorem nr_m3 : ∀ i, i < 18 → nI i / 3 = nI (i / 3) ∧ nI i - nI i / 3 * 3 = nI (i % 3) := by decide +kernel
theorem nr_m8 : ∀ p, p < 4 → ((1 : Int32) <<< (nI p &&& 31)).toInt8.toInt32 = (1 : Int32) <<< (nI p &&& 31) ∧ ¬ (0 : Int32) = (1 : Int32) <<< (nI p &&& 31) := by decide +kernel
theorem nr_mc : ∀ c, c < 4 → c % 2 = 1 → nI c &&& (((1 : Int32) <<< (nI 0 &&& 31)) ^^^ (-1)) = nI (c - 1) := by decide +kernel
theorem nr_72 {post : Int32 → St2 → Prop} {p v d : Nat} (hp : p < 4) (hK : nr_K 200 v d a8) (hv : 24 ≤ v) (h12 : a12 0 = (1 : Int32) <<< (nI p &&& 31)) (h : ∀ s, post 1 s) : ∃ fu, wX_matters_72 post (nI 0) P cs gs os sv a1 a2 a3 a4 a5 a6 a7 a8 a9 a10 a11 a12 fu 0 (nI 0) := by
  refine loop_0 (σ := Int32) (fun n i s => wX_matters_72 post (nI 0) P cs gs os sv a1 a2 a3 a4 a5 a6 a7 a8 a9 a10 a11 a12 n s (nI i)) (fun i s => s = if i = 0 then 0 else 1) 18 0 rfl ?_ ?_
  · intro n s g
    rw [if_neg (by omega)] at g
    subst g
    exact br_t (nI_le (Nat.le_refl 18) (by decide)) (nm_e ⟨rfl, h _⟩)
  · intro n i s hi g hw
    refine br_f (nI_ge (b := 18) hi (by decide)) ⟨by decide, by decide, ?_⟩
    rw [(nr_m3 i hi).2, (nr_m3 i hi).1]
    refine nr_mset (by omega) (by omega) ⟨vp_in_nI hi (by decide), ?_⟩
    rw [nI_clamp (show i < 2 ^ 31 by omega)]
    by_cases e : i = 0
    · subst e
      rw [h12, nr_setU0 hK hv]
      exact br_f (nr_m8 p hp).2 (nm_r (nI_1 0) (hw 1 rfl))
    · rw [if_neg e] at g
      subst g
      have w : (1 : Int32) = if i + 1 = 0 then 0 else 1 := (if_neg (by omega)).symm
      exact br_c (fun _ => nm_r (nI_1 i) (hw 1 w)) (fun _ => nm_r (nI_1 i) (hw 1 w))
theorem nr_matters {post : Int32 → St2 → Prop} {c p t : Nat} (hC : nr_C c p t cs a1 a2 a3 a4) (ho : c % 2 = 1)
    (hs : ∀ ψ : St2 → Prop, (∀ b8 b9, nr_K (nr_u c p) (nr_v c p t) (nr_d t) b8 → ψ (4, cs, gs, os, 1, a1, a2, a3, a4, a5, a6, a7, b8, b9, a10, a11, a12)) → wpX_solve ψ (4, cs, gs, os, sv, a1, a2, a3, a4, a5, a6, a7, a8, a9, a10, a11, a12))
    (h : ∀ s, post 1 s) : wpX_matters post (4, cs, gs, os, sv, a1, a2, a3, a4, a5, a6, a7, a8, a9, a10, a11, a12) (nI 0) := by
  obtain ⟨hc, hp, ht, hcs, c1, c2, c3, c4, hC2⟩ := hC
  have hu : nr_u c p = p := if_pos ho
  have hu2 : nr_u (c - 1) p = 200 := if_neg (by omega)
  have hv := nr_vB (c := c) (t := t) hp
  have hv2 := nr_vB (c := c - 1) (t := t) hp
  unfold wpX_matters
  refine nr_has1 (by omega) (by rw [hcs]; exact nr_bit0 hc ho) (br_f (by decide) ?_)
  refine hs _ (fun b8 b9 hK => ?_)
  rw [hu] at hK
  refine loop_0 (σ := Nat → Int32) (fun n i s => wX_matters_16 post (nI 0) 4 cs gs os 1 n (nI i) a1 a2 a3 a4 a5 a6 a7 b8 b9 a10 a11 s) (fun i s => 0 < i → s 0 = (1 : Int32) <<< (nI p &&& 31)) 18 a12 (fun z => absurd z (by omega)) ?_ ?_
  · intro n s g
    refine br_t (nI_le (Nat.le_refl 18) (by decide)) (nm_r (show cs &&& (((1 : Int32) <<< (nI 0 &&& 31)) ^^^ (-1)) = nI (c - 1) by rw [hcs]; exact nr_mc c hc ho) ?_)
    refine nr_solve (c := c - 1) (p := p) (t := t) ⟨by omega, hp, ht, rfl, c1, c2, c3, c4, fun z => hC2 (by omega)⟩ (fun e8 e9 hK2 => ?_)
    rw [hu2] at hK2
    exact nr_72 hp hK2 (by omega) (g (by omega)) h
  · intro n i s hi g hw
    refine br_f (nI_ge (b := 18) hi (by decide)) ⟨by decide, by decide, ?_⟩
    rw [(nr_m3 i hi).2, (nr_m3 i hi).1]
    refine nr_mset (by omega) (by omega) ⟨vp_in_nI hi (by decide), nm_r (by rw [nI_clamp (show i < 2 ^ 31 by omega)]) (nm_r (nI_1 i) (hw _ (fun _ => ?_)))⟩
    by_cases e : i = 0
    · subst e
      rw [nr_setU hK (by omega) (by omega), pk_us]
      exact (nr_m8 p hp).1
    · rw [pk_un (by omega)]
      exact g (by omega)
end
end
section
/-! ===== certify, grant ===== -/
theorem nr_b8 : ∀ t, t < 13 → (nI t).toInt8.toInt32 = nI t := by decide +kernel
section
variable {P cs gs os sv : Int32} {a1 a2 a3 a4 a5 a6 a7 a8 a9 a10 a11 a12 : Nat → Int32}
theorem nr_cert0 {post : Int32 → St2 → Prop} {p : Nat} (hp : p < 4)
    (h : ∀ b1 b2 b3 b4, b1 0 = nI 0 → b2 0 = nI 0 → b3 0 = nI p → b4 0 = nI 0 → post (nI 0) (4, nI 1, gs, os, 0, b1, b2, b3, b4, a5, a6, a7, a8, a9, a10, a11, a12)) : wpX_certify post (4, 0, gs, os, sv, a1, a2, a3, a4, a5, a6, a7, a8, a9, a10, a11, a12) (nI 0) (nI 0) (nI p) (nI 0) := by
  unfold wpX_certify
  refine nr_isP (k := 0) (by omega) (br_f (by decide) ?_)
  refine nr_isP hp (br_f (by decide) ?_)
  refine nr_isN (k := 0) (by omega) (br_f (by decide) ?_)
  refine nr_isT (k := 0) (by omega) (br_f (by decide) ?_)
  refine ⟨1, br_f (by decide) (br_t (by decide) ⟨vp_in_nI (n := 0) (by omega) (by decide), nm_e ⟨vp_in_nI (n := 0) (by omega) (by decide), nm_e ⟨vp_in_nI (n := 0) (by omega) (by decide), nm_e ⟨vp_in_nI (n := 0) (by omega) (by decide), nm_e (nm_r (show (0 : Int32) ||| ((1 : Int32) <<< ((0 : Int32) &&& 31)) = nI 1 by decide) ?_)⟩⟩⟩⟩)⟩
  have e : (0 : Int32).toNatClampNeg = 0 := nI_clamp (n := 0) (by omega)
  rw [e]
  refine h _ _ _ _ ?_ ?_ ?_ ?_
  · rw [pk_us]; exact nr_b8 0 (by omega)
  · rw [pk_us]; exact nr_b8 0 (by omega)
  · rw [pk_us]; exact nr_b8 p (by omega)
  · rw [pk_us]; exact nr_b8 0 (by omega)
/-- the second certificate: a good path, or none -/
theorem nr_cert1 {post : Int32 → St2 → Prop} {p : Nat} {w : Int32} (hp : p < 4) (h1 : a1 0 = nI 0) (h2 : a2 0 = nI 0) (h3 : a3 0 = nI p) (h4 : a4 0 = nI 0)
    (hg : ∀ t b1 b2 b3 b4, t < 13 → w = nI t → nr_C 3 p t (nI 3) b1 b2 b3 b4 → post (nI 1) (4, nI 3, gs, os, 0, b1, b2, b3, b4, a5, a6, a7, a8, a9, a10, a11, a12))
    (hb : (w < 0 ∨ (¬ w < 0 ∧ 12 < w)) → nr_C 1 p 0 (nI 1) a1 a2 a3 a4 → post (-1) (4, nI 1, gs, os, 0, a1, a2, a3, a4, a5, a6, a7, a8, a9, a10, a11, a12)) : wpX_certify post (4, nI 1, gs, os, 0, a1, a2, a3, a4, a5, a6, a7, a8, a9, a10, a11, a12) (nI 1) (nI 1) (nI 0) w := by
  have bad : nr_C 1 p 0 (nI 1) a1 a2 a3 a4 := ⟨by omega, hp, by omega, rfl, h1, h2, h3, h4, fun z => absurd z (by omega)⟩
  unfold wpX_certify
  refine nr_isP (k := 1) (by omega) (br_f (by decide) ?_)
  refine nr_isP (k := 0) (by omega) (br_f (by decide) ?_)
  refine nr_isN (k := 1) (by omega) (br_f (by decide) ?_)
  by_cases g0 : w < 0
  · exact br_t g0 (br_t rfl (hb (Or.inl g0) bad))
  · by_cases g1 : 12 < w
    · exact br_f g0 (br_t g1 (br_t rfl (hb (Or.inr ⟨g0, g1⟩) bad)))
    · obtain ⟨t, ht, e⟩ := nI_of2 (M := 12) (n := 12) (by decide) g0 (by simp only [Int32.le_iff_toInt_le, Int32.lt_iff_toInt_lt] at *; omega)
      subst e
      refine nr_isT (k := t) (by omega) (br_f (by decide) ?_)
      refine ⟨2, br_f (by decide) (br_f (by decide) (nm_r (nI_1 0) ?_))⟩
      refine br_f (by decide) (br_t (by decide) ⟨vp_in_nI (by omega) (by decide), nm_e ⟨vp_in_nI (by omega) (by decide), nm_e ⟨vp_in_nI (by omega) (by decide), nm_e ⟨vp_in_nI (by omega) (by decide), nm_e (nm_r (show nI 1 ||| ((1 : Int32) <<< (nI 1 &&& 31)) = nI 3 by decide) ?_)⟩⟩⟩⟩)
      rw [nI_clamp (show 1 < 2 ^ 31 by omega)]
      refine hg t _ _ _ _ (by omega) rfl ⟨by omega, hp, by omega, rfl, ?_, ?_, ?_, ?_, fun _ => ⟨?_, ?_, ?_, ?_⟩⟩
      · rw [pk_un (by omega)]; exact h1
      · rw [pk_un (by omega)]; exact h2
      · rw [pk_un (by omega)]; exact h3
      · rw [pk_un (by omega)]; exact h4
      · rw [pk_us]; exact nr_b8 1 (by omega)
      · rw [pk_us]; exact nr_b8 1 (by omega)
      · rw [pk_us]; exact nr_b8 0 (by omega)
      · rw [pk_us]; exact nr_b8 t (by omega)
theorem nr_grant {post : Int32 → St2 → Prop}
    (h : ∀ b5 b6 b7, b5 0 = nI 2 → b6 0 = nI 1 → b7 0 = nI 2 → post (nI 0) (4, cs, nI 1, nI 1, sv, a1, a2, a3, a4, b5, b6, b7, a8, a9, a10, a11, a12)) : wpX_grant post (4, cs, 0, 0, sv, a1, a2, a3, a4, a5, a6, a7, a8, a9, a10, a11, a12) (nI 2) (nI 1) (nI 2) 1 := by
  unfold wpX_grant
  refine nr_isP (k := 2) (by omega) (br_f (by decide) ?_)
  refine nr_isP (k := 1) (by omega) (br_f (by decide) ?_)
  refine nr_isT (k := 2) (by omega) (br_f (by decide) ?_)
  refine ⟨1, br_f (by decide) (br_t (by decide) ⟨vp_in_nI (n := 0) (by omega) (by decide), nm_e ⟨vp_in_nI (n := 0) (by omega) (by decide), nm_e ⟨vp_in_nI (n := 0) (by omega) (by decide), nm_e (nm_r (show (0 : Int32) ||| ((1 : Int32) <<< ((0 : Int32) &&& 31)) = nI 1 by decide) (br_f (by decide) (nm_r (show (0 : Int32) ||| ((1 : Int32) <<< ((0 : Int32) &&& 31)) = nI 1 by decide) ?_)))⟩⟩⟩)⟩
  have e : (0 : Int32).toNatClampNeg = 0 := nI_clamp (n := 0) (by omega)
  rw [e]
  refine h _ _ _ ?_ ?_ ?_
  · rw [pk_us]; exact nr_b8 2 (by omega)
  · rw [pk_us]; exact nr_b8 1 (by omega)
  · rw [pk_us]; exact nr_b8 2 (by omega)
end
/-! ===== the law's tail ===== -/
section
variable {post : Int32 → St0 → Prop} {mc ms kc ks : Nat}
theorem nr_in {x d : Nat} (hx : x < 4) (h : post 1 ()) : wL_lawOf_173 post mc ms (nI x) (nI 0) (nI 1) (nI 0) (nI d) ((1 : Int32) <<< (nI x &&& 31)) (nI (d + 1)) (nI 1) 1 1 (nI x) (nI d) kc ks :=
  br_t rfl (br_t rfl (br_f (by decide) (br_t rfl (br_t rfl (br_f (by decide) (br_t rfl (br_t (nI_pos' (by omega)) (br_t rfl (br_f (by decide) (br_t (nI_1 d).symm (br_f (by decide) (br_t rfl (br_f (by decide) h)))))))))))))
theorem nr_out {x : Nat} {who r s due z : Int32} (hw : ¬ who = nI x) (hr : z = 0 ∧ r = -1 ∨ ¬ z = 0 ∧ r = 1) (hs : 0 ≤ who ∧ s = (1 : Int32) <<< (who &&& 31) ∨ ¬ 0 ≤ who ∧ s = 0) (h : post 1 ()) : wL_lawOf_173 post mc ms (nI x) (nI 0) r (nI 0) (-1) s (-1) (-1) 1 z who due kc ks := by
  have k263 : wL_lawOf_263 post mc ms (-1) 1 0 (-1) (-1) kc ks := br_t rfl (br_t rfl (br_t rfl (br_f (by decide) h)))
  have k227 : wL_lawOf_227 post mc ms s (-1) (-1) 1 who due 0 (-1) (-1) kc ks := by
    refine br_t rfl ?_
    rcases hs with ⟨h1, h2⟩ | ⟨h1, h2⟩
    · exact br_t h1 (br_t h2 (br_t rfl k263))
    · exact br_f h1 (br_t h2 (br_t rfl k263))
  have k206 : ∀ q, r = q → wL_lawOf_206 post mc ms (nI 0) (-1) s (-1) (-1) 1 who due 0 q r kc ks := fun q hq => br_t hq (br_t rfl (br_t rfl k227))
  refine br_f hw (br_t rfl ?_)
  rcases hr with ⟨h1, h2⟩ | ⟨h1, h2⟩
  · exact br_t h1 (k206 (-1) h2)
  · exact br_f h1 (k206 1 h2)
theorem nr_173y {x w d : Nat} (hx : x < 4) (hw : w < 4) (h : post 1 ()) : wL_lawOf_173 post mc ms (nI x) (nI 0) (nI 1) (nI 0) (nr_R (24 + w) d x) (nr_W (24 + w)) (nr_R (24 + w) (d + 1) x) (nr_R (24 + w) 1 x) 1 1 (nI w) (nI d) kc ks := by
  have hW : nr_W (24 + w) = (1 : Int32) <<< (nI w &&& 31) := by
    unfold nr_W
    rw [if_neg (by omega), show 24 + w - 24 = w by omega]
  rw [hW]
  unfold nr_R
  by_cases e : w = x
  · subst e
    rw [if_pos rfl, if_pos rfl, if_pos rfl]
    exact nr_in hx h
  · have n : ¬ 24 + w = 24 + x := by omega
    rw [if_neg n, if_neg n, if_neg n]
    exact nr_out (fun z => e ((nI_eq (by omega) (by omega)).mp z)) (Or.inr ⟨by decide, rfl⟩) (Or.inl ⟨nI_pos' (by omega), rfl⟩) h
theorem nr_173n {x d : Nat} {z r due : Int32} (hx : x < 4) (hr : z = 0 ∧ r = -1 ∨ ¬ z = 0 ∧ r = 1) (h : post 1 ()) : wL_lawOf_173 post mc ms (nI x) (nI 0) r (nI 0) (nr_R 200 d x) (nr_W 200) (nr_R 200 (d + 1) x) (nr_R 200 1 x) 1 z (-1) due kc ks := by
  have hW : nr_W 200 = 0 := if_pos rfl
  rw [hW]
  unfold nr_R
  rw [if_neg (by omega), if_neg (by omega), if_neg (by omega)]
  have t : ∀ x, x < 4 → ¬ (-1 : Int32) = nI x := by decide +kernel
  exact nr_out (t x hx) hr (Or.inr ⟨by decide, rfl⟩) h
theorem nr_153n {x d : Nat} {w z r : Int32} (hx : x < 4) (hr : z = 0 ∧ r = -1 ∨ ¬ z = 0 ∧ r = 1) (h : post 1 ()) : wL_lawOf_153 post mc ms w (nI x) (nI 0) r (nI 0) (nr_R 200 d x) (nr_W 200) (nr_R 200 (d + 1) x) (nr_R 200 1 x) 1 z (-1) kc ks :=
  br_c (fun _ => nr_173n hx hr h) (fun _ => br_c (fun _ => nr_173n hx hr h) (fun _ => nr_173n hx hr h))
/-- a path that isn't good -/
theorem nr_bad {x d : Nat} {w y : Int32} (hx : x < 4) (h : post 1 ()) : wL_lawOf_108 post mc ms w y (nI x) (nI 0) (-1) (nI 0) (nr_R 200 d x) (nr_W 200) (nr_R 200 (d + 1) x) (nr_R 200 1 x) 1 kc ks :=
  br_t rfl (nr_153n hx (Or.inl ⟨rfl, rfl⟩) h)
theorem nr_good {x p t : Nat} (hx : x < 4) (hp : p < 4) (ht : t < 13) (h : post 1 ()) : wL_lawOf_109 post mc ms (nI t) (nI p) (nI x) (nI 0) (nI 1) (nI 0) (nr_R (nr_v 3 p t) (nr_d t) x) (nr_W (nr_v 3 p t)) (nr_R (nr_v 3 p t) (nr_d t + 1) x) (nr_R (nr_v 3 p t) 1 x) 1 1 kc ks := by
  have hr : (1 : Int32) = 0 ∧ nI 1 = -1 ∨ ¬ (1 : Int32) = 0 ∧ nI 1 = 1 := Or.inr ⟨by decide, rfl⟩
  refine br_f (by decide) ?_
  by_cases t0 : t = 0
  · subst t0
    exact br_t rfl (br_t rfl (nr_173y (w := 0) (d := 1) hx (by omega) h))
  · refine br_f (nI_ne0 (by omega) (by omega)) ?_
    by_cases t1 : t = 1
    · subst t1
      exact br_t rfl (br_f (by decide) (br_t rfl (nr_173y (w := p) (d := 2) hx hp h)))
    · have n1 : ¬ nI t = 1 := fun z => t1 ((nI_eq (b := 1) (by omega) (by omega)).mp z)
      refine br_f n1 ?_
      by_cases t4 : t = 4
      · subst t4
        refine br_t rfl ?_
        by_cases p0 : p = 0
        · subst p0
          exact br_t rfl (br_f (by decide) (br_f (by decide) (nr_173y (w := 0) (d := 3) hx (by omega) h)))
        · have hv : nr_v 3 p 4 = 200 := by
            unfold nr_v
            rw [if_neg (by omega), if_neg (by omega), if_neg (by omega), if_neg (by omega)]
          rw [hv]
          exact br_f (nI_ne0 (by omega) (by omega)) (nr_153n hx hr h)
      · have n4 : ¬ nI t = 4 := fun z => t4 ((nI_eq (b := 4) (by omega) (by omega)).mp z)
        have hv : nr_v 3 p t = 200 := by
          unfold nr_v
          rw [if_neg (by omega), if_neg (by omega), if_neg (by omega), if_neg (by omega)]
        rw [hv]
        exact br_f n4 (nr_153n hx hr h)
end
end
section
theorem nr_law {post : Int32 → St0 → Prop} (y0 w y2 : Int32) (h : post 1 ()) : wpL_lawOf post 13 321 () y0 w y2 := by
  obtain ⟨p, hp, ep⟩ := pk_andE y0 (m := 3) 2 (by decide)
  obtain ⟨x, hx, ex⟩ := pk_andE y2 (m := 3) 2 (by decide)
  have hp4 : p < 4 := hp
  have hx4 : x < 4 := hx
  refine ⟨by decide, by decide, 12, 304, by decide, by decide, ?_⟩
  unfold wpX_init
  refine ⟨by decide, by decide, by decide, by decide, by decide, by decide, by decide, by decide, by decide, by decide, by decide, by decide, by decide, by decide, by decide, by decide, by decide, by decide, by decide, by decide, by decide, by decide, by decide, by decide, br_t (by decide) (br_t (by decide) (nm_r ep (nm_r ex ?_)))⟩
  refine nr_cert0 hp4 (fun b1 b2 b3 b4 h1 h2 h3 h4 => ?_)
  refine nr_cert1 hp4 h1 h2 h3 h4 (fun t d1 d2 d3 d4 ht et hC => ?_) (fun hb hC => ?_)
  · subst et
    have hu := nr_uB (c := 3) hp4
    have hv := nr_vB (c := 3) (t := t) hp4
    have hd := nr_dB t
    refine nr_grant (fun b5 b6 b7 h5 h6 h7 => ?_)
    refine nr_cost hu (by omega) hx4 (fun ψ k => nr_solve hC k) (fun b8 b9 hK => ?_)
    refine nr_members hu (by omega) hv (fun ψ k => nr_solved (k b8 b9 hK)) (fun e8 e9 hK2 => ?_)
    refine nr_trust rfl rfl h5 h6 h7 hu (by omega) hx4 (fun ψ k => nr_solved (k e8 e9 hK2)) (fun f8 f9 f10 f11 hK3 => ?_)
    refine nr_witness hC rfl hx4 (fun ψ k => nr_solved (k f8 f9 hK3)) (fun g8 g9 hK4 => ?_)
    refine nr_matters hC rfl (fun ψ k => nr_solved (k g8 g9 hK4)) (fun s => ?_)
    exact br_f (nI_pos (by omega)) (br_f (nI_nlt (a := 12) (by omega) (by decide)) (nr_good hx4 hp4 ht h))
  · have hu := nr_uB (c := 1) hp4
    have hd := nr_dB 0
    refine nr_grant (fun b5 b6 b7 h5 h6 h7 => ?_)
    refine nr_cost hu (by omega) hx4 (fun ψ k => nr_solve hC k) (fun b8 b9 hK => ?_)
    refine nr_members hu (by omega) (Or.inl rfl) (fun ψ k => nr_solved (k b8 b9 hK)) (fun e8 e9 hK2 => ?_)
    refine nr_trust rfl rfl h5 h6 h7 hu (by omega) hx4 (fun ψ k => nr_solved (k e8 e9 hK2)) (fun f8 f9 f10 f11 hK3 => ?_)
    refine nr_witness hC rfl hx4 (fun ψ k => nr_solved (k f8 f9 hK3)) (fun g8 g9 hK4 => ?_)
    refine nr_matters hC rfl (fun ψ k => nr_solved (k g8 g9 hK4)) (fun s => ?_)
    rcases hb with g | ⟨g0, g⟩
    · exact br_t g (nr_bad (d := nr_d 0) hx4 h)
    · exact br_f g0 (br_t g (nr_bad (d := nr_d 0) hx4 h))
theorem nr_at {post : Int32 → Prop} {L : Nat} {xs : Nat → Int32} {k : Nat} (hL : L ≤ 3) (hk : k < 3) (h : ∀ r, post r) : wpL_cellAt post L xs () (nI k) :=
  pk_le L k (fun _ => h _) (fun z => ⟨vp_in_nI z (by omega), h _⟩)
theorem i_vc (xs : Nat → Int32) (L : Nat) (hL : L ≤ 3) : wpL_law (fun r => r = 1) L xs := by
  unfold wpL_law
  refine nr_at (k := 0) hL (by omega) (fun y0 => ?_)
  refine nr_at (k := 1) hL (by omega) (fun w => ?_)
  refine nr_at (k := 2) hL (by omega) (fun y2 => ?_)
  exact ⟨13, 321, by decide, by decide, nr_law y0 w y2 rfl⟩
end
