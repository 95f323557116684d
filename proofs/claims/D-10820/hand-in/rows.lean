section
/-! The 53 shapes, by code: tables and the facts about them that are read off by evaluation. -/
def sr_L : List Nat := [0, 1, 2, 3, 4, 5, 6, 7, 8, 9, 11, 12, 13, 14, 15, 16, 17, 18, 22, 23, 24, 25, 26, 27, 33, 34, 35, 36, 44, 45, 111, 112, 113, 114, 115, 116, 117, 122, 123, 124, 125, 126, 133, 134, 135, 144, 222, 223, 224, 225, 233, 234, 333]
def sr_c (j : Nat) : Nat := sr_L.getD j 0
def sr_A (j : Nat) : Nat := sr_c j % 10
def sr_B (j : Nat) : Nat := sr_c j / 10 % 10
def sr_C (j : Nat) : Nat := sr_c j / 100
def sr_sz (j : Nat) : Nat := sr_A j + sr_B j + sr_C j
/-- how many shapes have a code below k -/
def sr_n (k : Nat) : Nat := (sr_L.filter (fun c => decide (c < k))).length
def sr_sh (k : Nat) : Bool := decide (k / 10 % 10 ≤ k % 10) && decide (k / 100 ≤ k / 10 % 10) && decide (k % 10 + k / 10 % 10 + k / 100 ≤ 9)
def sr_f1b (k : Nat) : Bool := match sr_sh k with
  | true => (sr_c (sr_n k) == k) && (sr_n (k + 1) == sr_n k + 1) && decide (sr_n k < 53)
  | false => sr_n (k + 1) == sr_n k
theorem sr_f1c : (List.range 1000).all sr_f1b = true := by decide +kernel
theorem sr_f1 {k : Nat} (hk : k < 1000) : (sr_sh k = true → sr_c (sr_n k) = k ∧ sr_n (k + 1) = sr_n k + 1 ∧ sr_n k < 53) ∧ (sr_sh k = false → sr_n (k + 1) = sr_n k) := by
  have h := List.all_eq_true.mp sr_f1c k (List.mem_range.mpr hk)
  unfold sr_f1b at h
  constructor
  · intro e
    rw [e] at h
    simp only [Bool.and_eq_true, beq_iff_eq, decide_eq_true_eq] at h
    exact ⟨h.1.1, h.1.2, h.2⟩
  · intro e
    rw [e] at h
    simpa using h
theorem sr_n0 : sr_n 0 = 0 := by decide +kernel
theorem sr_n1000 : sr_n 1000 = 53 := by decide +kernel
theorem sr_bnd : ∀ j, j < 53 → sr_A j ≤ 9 ∧ sr_B j ≤ sr_A j ∧ sr_C j ≤ sr_B j ∧ sr_A j + sr_B j + sr_C j ≤ 9 ∧ sr_c j < 1000 ∧ sr_c j = sr_A j + 10 * sr_B j + 100 * sr_C j ∧ sr_sh (sr_c j) = true ∧ sr_n (sr_c j) = j := by decide +kernel
theorem sr_inj {i j : Nat} (hi : i < 53) (hj : j < 53) (h1 : sr_A i = sr_A j) (h2 : sr_B i = sr_B j) (h3 : sr_C i = sr_C j) : i = j := by
  have a := sr_bnd i hi
  have b := sr_bnd j hj
  have e : sr_c i = sr_c j := by omega
  rw [← a.2.2.2.2.2.2.2, ← b.2.2.2.2.2.2.2, e]
theorem sr_mem {k : Nat} (hk : k < 1000) (h : sr_sh k = true) : ∃ s, s < 53 ∧ sr_c s = k :=
  ⟨sr_n k, ((sr_f1 hk).1 h).2.2, ((sr_f1 hk).1 h).1⟩
theorem sr_byte : ∀ a, a < 10 → (nI a).toInt8.toInt32 = nI a := by decide +kernel
theorem sr_nle4 : ∀ k, k < 10 → ¬ nI k ≤ (-4 : Int32) := by decide +kernel
theorem sr_d1 {i : Nat} (h : i < 2 ^ 31) : nI i - nI i / 10 * 10 = nI (i % 10) := pk_rem (d := 10) h (by omega) (by omega)
theorem sr_d2 {i : Nat} (h : i < 2 ^ 31) : (nI i / 10) - (nI i / 10) / 10 * 10 = nI (i / 10 % 10) := by
  have e : nI i / 10 = nI (i / 10) := pk_div (d := 10) h (by omega) (by omega)
  rw [e]
  exact sr_d1 (by omega)
theorem sr_d3 {i : Nat} (h : i < 2 ^ 31) : nI i / 100 = nI (i / 100) := pk_div (d := 100) h (by omega) (by omega)
/-- the rows of the shapes, as the object holds them -/
def sr_T (a1 a2 a3 : Nat → Int32) : Prop := ∀ j, j < 53 → a1 j = nI (sr_A j) ∧ a2 j = nI (sr_B j) ∧ a3 j = nI (sr_C j)
/-- element E is m times shape s -/
def sr_one (a4 : Nat → Int32) (E s : Nat) (m : Int32) : Prop := ∀ j, j < 53 → a4 (60 * E + j) = if j = s then m else 0
theorem sr_one0 {a4 : Nat → Int32} {E s : Nat} (h : sr_one a4 E 0 0) : sr_one a4 E s 0 := by
  intro j hj
  rw [h j hj]
  split <;> split <;> rfl
theorem sr_ix (E j : Nat) : (60 : Int32) * nI E + nI j = nI (60 * E + j) := by
  have e : (60 : Int32) * nI E = nI (60 * E) := pk_mul 60 E
  rw [e, nI_add]
end
section
/-! The constructor: it lays the 53 shapes. -/
theorem sr_fillT {b1 b2 b3 : Nat → Int32} {k c : Nat} (hc : c < 53) (hk : sr_c c = k) (h : ∀ j, j < c → b1 j = nI (sr_A j) ∧ b2 j = nI (sr_B j) ∧ b3 j = nI (sr_C j)) :
    ∀ j, j < c + 1 → upd b1 (nI c).toNatClampNeg (nI (k % 10)).toInt8.toInt32 j = nI (sr_A j) ∧ upd b2 (nI c).toNatClampNeg (nI (k / 10 % 10)).toInt8.toInt32 j = nI (sr_B j) ∧ upd b3 (nI c).toNatClampNeg (nI (k / 100)).toInt8.toInt32 j = nI (sr_C j) := by
  intro j hj
  have hb := sr_bnd c hc
  rw [nI_clamp (show c < 2 ^ 31 by omega), sr_byte _ (show k % 10 < 10 by omega), sr_byte _ (show k / 10 % 10 < 10 by omega), sr_byte _ (show k / 100 < 10 by omega)]
  by_cases e : j = c
  · rw [e, pk_us, pk_us, pk_us]
    unfold sr_A sr_B sr_C
    rw [hk]
    exact ⟨rfl, rfl, rfl⟩
  · rw [pk_un e, pk_un e, pk_un e]
    exact h j (by omega)
theorem sr_init {post : St2 → Prop} {mc ms : Nat} (h1 : 6 ≤ mc) (h2 : 372 ≤ ms) (H : ∀ a1 a2 a3, sr_T a1 a2 a3 → post (nI 53, a1, a2, a3, fun _ => 0, fun _ => 0, fun _ => 0)) : wpX_init post mc ms 0 := by
  refine ⟨by omega, by omega, by omega, by omega, by omega, by omega, by omega, by omega, by omega, by omega, by omega, by omega, ?_⟩
  refine pk_loop (σ := Int32 × (Nat → Int32) × (Nat → Int32) × (Nat → Int32)) (fun n i s => wX_init_54 post mc ms 6 372 n (nI i) s.1 s.2.1 s.2.2.1 s.2.2.2 (fun _ => 0) (fun _ => 0) (fun _ => 0))
    (fun i s => s.1 = nI (sr_n i) ∧ ∀ j, j < sr_n i → s.2.1 j = nI (sr_A j) ∧ s.2.2.1 j = nI (sr_B j) ∧ s.2.2.2 j = nI (sr_C j)) 1000 0 (0, fun _ => 0, fun _ => 0, fun _ => 0) (by omega)
    ⟨by rw [sr_n0]; rfl, by rw [sr_n0]; exact lt_0⟩ ?_ ?_
  · rintro n ⟨c, b1, b2, b3⟩ ⟨hc, hb⟩
    rw [sr_n1000] at hc hb
    dsimp only at hc hb
    subst hc
    exact pk_le 1000 1000 (fun _ => H b1 b2 b3 hb) (fun z => absurd z (by omega))
  · rintro n i ⟨c, b1, b2, b3⟩ hi ⟨hc, hb⟩ hw
    dsimp only at hc hb
    subst hc
    have hl : i < 2 ^ 31 := by omega
    have no : sr_sh i = false → wX_init_54 post mc ms 6 372 n (nI (i + 1)) (nI (sr_n i)) b1 b2 b3 (fun _ => 0) (fun _ => 0) (fun _ => 0) := by
      intro e
      have hq := (sr_f1 hi).2 e
      exact hw (nI (sr_n i), b1, b2, b3) ⟨by rw [hq], by rw [hq]; exact hb⟩
    refine pk_le 1000 i (fun z => absurd z (by omega)) (fun _ => ⟨by decide, nm_r (sr_d1 hl) ⟨by decide, by decide, nm_r (sr_d2 hl) ⟨by decide, nm_r (sr_d3 hl) ?_⟩⟩⟩)
    refine pk_lt (i % 10) (i / 10 % 10) (fun z => nm_r (nI_1 i) (no ?_)) (fun z1 => pk_lt (i / 10 % 10) (i / 100) (fun z => nm_r (nI_1 i) (no ?_)) (fun z2 => pk_lt 9 (i % 10 + i / 10 % 10 + i / 100) (fun z => nm_r (nI_1 i) (no ?_)) (fun z3 => ?_) rfl (by rw [nI_add, nI_add])))
    · unfold sr_sh; simp; omega
    · unfold sr_sh; simp; omega
    · unfold sr_sh; simp; omega
    · have hs : sr_sh i = true := by unfold sr_sh; simp; omega
      obtain ⟨q1, q2, q3⟩ := (sr_f1 hi).1 hs
      have hv : vp_in (nI (sr_n i)) 60 := pk_in (sr_n i) 60 (by omega)
      exact ⟨hv, nm_e ⟨hv, nm_e ⟨hv, nm_e (nm_r (nI_1 _) (nm_r (nI_1 i) (hw (nI (sr_n i + 1), _, _, _) ⟨by rw [q2], by rw [q2]; exact sr_fillT q3 q1 hb⟩)))⟩⟩⟩
end
section
/-! One lemma a method: reading. -/
section
variable {f : Int32} {a1 a2 a3 a4 a5 a6 : Nat → Int32} {E s : Nat} {m : Int32}
theorem sr_sizeOf {post : Int32 → Prop} {x : Int32} (hT : sr_T a1 a2 a3) (s : Nat) (hs : s < 53) (hp : post (nI (sr_sz s))) (hx : x = nI s := by rfl) : wpX_sizeOf post (f, a1, a2, a3, a4, a5, a6) x := by
  subst hx
  have hv : vp_in (nI s) 60 := pk_in s 60 (by omega)
  obtain ⟨h1, h2, h3⟩ := hT s hs
  refine ⟨hv, hv, hv, ?_⟩
  rw [nI_clamp (show s < 2 ^ 31 by omega), h1, h2, h3, nI_add, nI_add]
  exact hp
theorem sr_get {post : Int32 → Prop} {x y : Int32} (E j : Nat) (hE : E < 2) (hj : j < 60) (hp : post (a4 (60 * E + j))) (hx : x = nI E := by rfl) (hy : y = nI j := by rfl) : wpX_get post (f, a1, a2, a3, a4, a5, a6) x y := by
  subst hx hy
  have e := sr_ix E j
  refine ⟨?_, ?_⟩
  · rw [e]
    exact pk_in (60 * E + j) 120 (by omega)
  · rw [e, nI_clamp (show 60 * E + j < 2 ^ 31 by omega)]
    exact hp
theorem sr_bad0 {post : Int32 → Prop} {u : St2} {x : Int32} (E : Nat) (hE : E < 2) (hp : post 0) (hx : x = nI E := by rfl) : wpX_badElement post u x := by
  obtain ⟨f, a1, a2, a3, a4, a5, a6⟩ := u
  exact pk_lt E 0 (fun z => absurd z (by omega)) (fun _ => pk_le E 1 (fun _ => hp) (fun z => absurd z (by omega)) hx) hx
theorem sr_bad1 {post : Int32 → Prop} {u : St2} {x : Int32} (h : ¬ (x = 0 ∨ x = 1)) (hp : post 1) : wpX_badElement post u x := by
  obtain ⟨f, a1, a2, a3, a4, a5, a6⟩ := u
  refine br_c (fun _ => hp) (fun h0 => br_c (fun h1 => ?_) (fun _ => hp))
  obtain ⟨j, hj, e⟩ := nI_of2 (M := 1) (n := 1) (by decide) h0 h1
  refine absurd ?_ h
  have hj2 : j = 0 ∨ j = 1 := by omega
  rcases hj2 with rfl | rfl
  · exact Or.inl e
  · exact Or.inr e
theorem sr_two : ¬ ((2 : Int32) = 0 ∨ (2 : Int32) = 1) := by decide
theorem sr_degreeOf {post : Int32 → Prop} {x : Int32} (hT : sr_T a1 a2 a3) (hE : E < 2) (h1 : sr_one a4 E s m) (hs : s < 53) (hp : post (if m = 0 then (-4) else nI (sr_sz s))) (hx : x = nI E := by rfl) : wpX_degreeOf post (nI 53, a1, a2, a3, a4, a5, a6) x := by
  subst hx
  refine pk_loop (fun n i x => wX_degreeOf_5 post (nI E) (nI 53) a1 a2 a3 a4 a5 a6 n x (nI i)) (fun i x => x = if s < i ∧ ¬ m = 0 then nI (sr_sz s) else (-4)) 53 0 (-4) (by omega) (by rw [if_neg (by omega)]) ?_ ?_
  · intro n x hx
    refine pk_le 53 53 (fun _ => ?_) (fun z => absurd z (by omega))
    by_cases e : m = 0
    · rw [if_pos e] at hp
      rw [if_neg (fun t => t.2 e)] at hx
      rw [hx]
      exact hp
    · rw [if_neg e] at hp
      rw [if_pos ⟨hs, e⟩] at hx
      rw [hx]
      exact hp
  · intro n i x hi hx hw
    refine pk_le 53 i (fun z => absurd z (by omega)) (fun _ => sr_sizeOf hT i hi (sr_get E i hE (by omega) ?_))
    rw [h1 i hi]
    by_cases e : i = s
    · rw [if_pos e]
      by_cases em : m = 0
      · refine br_t em (nm_r (nI_1 i) (hw x ?_))
        rw [if_neg (fun t => t.2 em)] at hx
        rw [if_neg (fun t => t.2 em)]
        exact hx
      · rw [if_neg (by omega)] at hx
        have hb := sr_bnd i hi
        refine br_f em (br_f ?_ (nm_r (nI_1 i) (hw (nI (sr_sz i)) ?_)))
        · rw [hx]
          exact sr_nle4 _ (by unfold sr_sz; omega)
        · rw [if_pos ⟨by omega, em⟩, e]
    · rw [if_neg e]
      refine br_t rfl (nm_r (nI_1 i) (hw x ?_))
      rw [hx]
      by_cases em : m = 0
      · rw [if_neg (fun t => t.2 em), if_neg (fun t => t.2 em)]
      · by_cases es : s < i
        · rw [if_pos ⟨es, em⟩, if_pos ⟨by omega, em⟩]
        · rw [if_neg (fun t => es t.1), if_neg (fun t => absurd t.1 (by omega))]
theorem sr_degree {post : Int32 → Prop} {x : Int32} (hT : sr_T a1 a2 a3) (hE : E < 2) (h1 : sr_one a4 E s m) (hs : s < 53) (hp : post (if m = 0 then (-4) else nI (sr_sz s))) (hx : x = nI E := by rfl) : wpX_degree post (nI 53, a1, a2, a3, a4, a5, a6) x := by
  unfold wpX_degree
  exact sr_bad0 E hE (br_t rfl (sr_degreeOf hT hE h1 hs hp hx)) hx
theorem sr_degree1 {post : Int32 → Prop} {x : Int32} (h : ¬ (x = 0 ∨ x = 1)) (hp : post (-1)) : wpX_degree post (f, a1, a2, a3, a4, a5, a6) x := by
  unfold wpX_degree
  exact sr_bad1 h (br_f (by decide) hp)
theorem sr_shapes {post : Int32 → Prop} {x : Int32} (hE : E < 2) (h1 : sr_one a4 E s m) (hs : s < 53) (hp : post (if m = 0 then 0 else 1)) (hx : x = nI E := by rfl) : wpX_shapes post (nI 53, a1, a2, a3, a4, a5, a6) x := by
  subst hx
  unfold wpX_shapes
  refine sr_bad0 E hE (br_t rfl ?_)
  refine pk_loop (fun n i x => wX_shapes_14 post (nI E) (nI 53) a1 a2 a3 a4 a5 a6 n x (nI i)) (fun i x => x = if s < i ∧ ¬ m = 0 then 1 else 0) 53 0 0 (by omega) (by rw [if_neg (by omega)]) ?_ ?_
  · intro n x hx
    refine pk_le 53 53 (fun _ => ?_) (fun z => absurd z (by omega))
    by_cases e : m = 0
    · rw [if_pos e] at hp
      rw [if_neg (fun t => t.2 e)] at hx
      rw [hx]
      exact hp
    · rw [if_neg e] at hp
      rw [if_pos ⟨hs, e⟩] at hx
      rw [hx]
      exact hp
  · intro n i x hi hx hw
    refine pk_le 53 i (fun z => absurd z (by omega)) (fun _ => sr_get E i hE (by omega) ?_)
    rw [h1 i hi]
    by_cases e : i = s
    · rw [if_pos e]
      by_cases em : m = 0
      · refine br_t em (nm_r (nI_1 i) (hw x ?_))
        rw [if_neg (fun t => t.2 em)] at hx
        rw [if_neg (fun t => t.2 em)]
        exact hx
      · rw [if_neg (by omega)] at hx
        refine br_f em (nm_e (nm_r (nI_1 i) (hw (x + 1) ?_)))
        rw [if_pos ⟨by omega, em⟩, hx]
        rfl
    · rw [if_neg e]
      refine br_t rfl (nm_r (nI_1 i) (hw x ?_))
      rw [hx]
      by_cases em : m = 0
      · rw [if_neg (fun t => t.2 em), if_neg (fun t => t.2 em)]
      · by_cases es : s < i
        · rw [if_pos ⟨es, em⟩, if_pos ⟨by omega, em⟩]
        · rw [if_neg (fun t => es t.1), if_neg (fun t => absurd t.1 (by omega))]
theorem sr_shapes1 {post : Int32 → Prop} {x : Int32} (h : ¬ (x = 0 ∨ x = 1)) (hp : post (-1)) : wpX_shapes post (f, a1, a2, a3, a4, a5, a6) x := by
  unfold wpX_shapes
  exact sr_bad1 h (br_f (by decide) hp)
theorem sr_inner {post : Int32 → Prop} (h0 : sr_one a4 0 0 0) (hp : post 0) : wpX_inner post (nI 53, a1, a2, a3, a4, a5, a6) := by
  refine pk_loop (fun n i x => wX_inner_4 post (nI 53) a1 a2 a3 a4 a5 a6 n x (nI i)) (fun i x => x = 0) 53 0 0 (by omega) rfl ?_ ?_
  · intro n x hx
    refine pk_le 53 53 (fun _ => ?_) (fun z => absurd z (by omega))
    rw [hx]
    exact hp
  · intro n i x hi hx hw
    refine pk_le 53 i (fun z => absurd z (by omega)) (fun _ => sr_get 0 i (by omega) (by omega) (sr_get 1 i (by omega) (by omega) (nm_r ?_ (nm_r (nI_1 i) (hw 0 rfl)))))
    rw [hx, h0 i hi, ite_self, Int32.zero_mul, Int32.add_zero]
/-- the search: a hit, and none -/
theorem sr_find {post : Int32 → Prop} {x y z : Int32} (hT : sr_T a1 a2 a3) (s : Nat) (hs : s < 53) (hx : x = nI (sr_A s)) (hy : y = nI (sr_B s)) (hz : z = nI (sr_C s)) (hp : post (nI s)) : wpX_find post (nI 53, a1, a2, a3, a4, a5, a6) x y z := by
  subst hx hy hz
  refine pk_loop (σ := Unit) (fun n i _ => wX_find_3 post (nI (sr_A s)) (nI (sr_B s)) (nI (sr_C s)) (nI 53) a1 a2 a3 a4 a5 a6 n (nI i)) (fun _ _ => True) s 0 () (by omega) trivial ?_ ?_
  · intro n _ _
    obtain ⟨h1, h2, h3⟩ := hT s hs
    have hv : vp_in (nI s) 60 := pk_in s 60 (by omega)
    have e := nI_clamp (show s < 2 ^ 31 by omega)
    exact pk_le 53 s (fun z => absurd z (by omega)) (fun _ => ⟨hv, br_t (by rw [e]; exact h1) ⟨hv, br_t (by rw [e]; exact h2) ⟨hv, br_t (by rw [e]; exact h3) hp⟩⟩⟩)
  · intro n i _ hi _ hw
    have hi' : i < 53 := by omega
    obtain ⟨h1, h2, h3⟩ := hT i hi'
    have hv : vp_in (nI i) 60 := pk_in i 60 (by omega)
    have e := nI_clamp (show i < 2 ^ 31 by omega)
    have bi := sr_bnd i hi'
    have bs := sr_bnd s hs
    have g := hw () trivial
    refine pk_le 53 i (fun z => absurd z (by omega)) (fun _ => ⟨hv, ?_⟩)
    rw [e, h1, h2, h3]
    refine pk_eq (sr_A i) (sr_A s) (fun q1 => ⟨hv, ?_⟩) (fun _ => nm_r (nI_1 i) g)
    refine pk_eq (sr_B i) (sr_B s) (fun q2 => ⟨hv, ?_⟩) (fun _ => nm_r (nI_1 i) g)
    refine pk_eq (sr_C i) (sr_C s) (fun q3 => ?_) (fun _ => nm_r (nI_1 i) g)
    have := sr_inj hi' hs q1 q2 q3
    omega
theorem sr_find0 {post : Int32 → Prop} {x y z : Int32} (hT : sr_T a1 a2 a3) (h : ∀ i, i < 53 → ¬ (nI (sr_A i) = x ∧ nI (sr_B i) = y ∧ nI (sr_C i) = z)) (hp : post (-1)) : wpX_find post (nI 53, a1, a2, a3, a4, a5, a6) x y z := by
  refine pk_loop (σ := Unit) (fun n i _ => wX_find_3 post x y z (nI 53) a1 a2 a3 a4 a5 a6 n (nI i)) (fun _ _ => True) 53 0 () (by omega) trivial ?_ ?_
  · intro n _ _
    exact pk_le 53 53 (fun _ => hp) (fun z => absurd z (by omega))
  · intro n i _ hi _ hw
    obtain ⟨h1, h2, h3⟩ := hT i hi
    have hv : vp_in (nI i) 60 := pk_in i 60 (by omega)
    have e := nI_clamp (show i < 2 ^ 31 by omega)
    have g := hw () trivial
    refine pk_le 53 i (fun z => absurd z (by omega)) (fun _ => ⟨hv, ?_⟩)
    rw [e, h1, h2, h3]
    exact br_c (fun q1 => ⟨hv, br_c (fun q2 => ⟨hv, br_c (fun q3 => absurd ⟨q1, q2, q3⟩ (h i hi)) (fun _ => nm_r (nI_1 i) g)⟩) (fun _ => nm_r (nI_1 i) g)⟩) (fun _ => nm_r (nI_1 i) g)
theorem sr_shapeOf {post : Int32 → Prop} {x : Int32} (hT : sr_T a1 a2 a3) (s : Nat) (hs : s < 53) (hp : post (nI s)) (hx : x = nI (sr_c s) := by rfl) : wpX_shapeOf post (nI 53, a1, a2, a3, a4, a5, a6) x := by
  subst hx
  have hb := sr_bnd s hs
  have hl : sr_c s < 2 ^ 31 := by omega
  exact pk_lt (sr_c s) 0 (fun z => absurd z (by omega)) (fun _ => pk_le (sr_c s) 999 (fun _ => ⟨by decide, by decide, by decide, by decide, sr_find hT s hs (sr_d1 hl) (sr_d2 hl) (sr_d3 hl) hp⟩) (fun z => absurd z (by omega)))
/-- no shape's code -/
def sr_no (x : Int32) : Prop := ∀ s, s < 53 → ¬ x = nI (sr_c s)
theorem sr_shapeOf0 {post : Int32 → Prop} {x : Int32} (hT : sr_T a1 a2 a3) (h : sr_no x) (hp : post (-1)) : wpX_shapeOf post (nI 53, a1, a2, a3, a4, a5, a6) x := by
  refine br_c (fun _ => hp) (fun h0 => br_c (fun h1 => ⟨by decide, by decide, by decide, by decide, sr_find0 hT (fun i hi q => ?_) hp⟩) (fun _ => hp))
  obtain ⟨k, hk, e⟩ := nI_of2 (M := 999) (n := 999) (by decide) h0 h1
  subst e
  have hl : k < 2 ^ 31 := by omega
  rw [sr_d1 hl, sr_d2 hl, sr_d3 hl] at q
  have bi := sr_bnd i hi
  have q1 := (nI_eq (by omega) (by omega)).mp q.1
  have q2 := (nI_eq (by omega) (by omega)).mp q.2.1
  have q3 := (nI_eq (by omega) (by omega)).mp q.2.2
  refine h i hi ?_
  rw [show sr_c i = k by omega]
theorem sr_coefficient {post : Int32 → Prop} {x y : Int32} (hT : sr_T a1 a2 a3) (hE : E < 2) (s : Nat) (hs : s < 53) (hp : post (a4 (60 * E + s))) (hx : x = nI E := by rfl) (hy : y = nI (sr_c s) := by rfl) : wpX_coefficient post (nI 53, a1, a2, a3, a4, a5, a6) x y := by
  unfold wpX_coefficient
  exact sr_shapeOf hT s hs (sr_bad0 E hE (br_t rfl (pk_le 0 s (fun _ => sr_get E s hE (by omega) hp hx) (fun z => absurd z (by omega)))) hx) hy
/-- shapeOf and badElement ahead of a method: one of them says no -/
theorem sr_sb1 {x y : Int32} {X : Int32 → Prop} {Y : Prop} (hT : sr_T a1 a2 a3) (h : (¬ (x = 0 ∨ x = 1)) ∨ sr_no y) (hp : Y) :
    wpX_shapeOf (fun r1 => wpX_badElement (fun r2 => ((r2 = 0 → ((0 ≤ r1 → X r1) ∧ (¬ 0 ≤ r1 → Y))) ∧ (¬ r2 = 0 → Y))) (nI 53, a1, a2, a3, a4, a5, a6) x) (nI 53, a1, a2, a3, a4, a5, a6) y := by
  by_cases c : sr_no y
  · refine sr_shapeOf0 hT c ?_
    by_cases d : x = 0 ∨ x = 1
    · have hx : ∃ E, E < 2 ∧ x = nI E := by
        rcases d with d | d
        · exact ⟨0, by omega, d⟩
        · exact ⟨1, by omega, d⟩
      obtain ⟨E, hE, hx⟩ := hx
      exact sr_bad0 E hE (br_t rfl (br_f (by decide) hp)) hx
    · exact sr_bad1 d (br_f (by decide) hp)
  · have d := h.resolve_right c
    have hy : ∃ s, s < 53 ∧ y = nI (sr_c s) := by
      refine Classical.byContradiction (fun q => c (fun s hs e => q ⟨s, hs, e⟩))
    obtain ⟨s, hs, hy⟩ := hy
    exact sr_shapeOf hT s hs (sr_bad1 d (br_f (by decide) hp)) hy
/-- .. and both say yes -/
theorem sr_sb0 {x y : Int32} {X : Int32 → Prop} {Y : Prop} (hT : sr_T a1 a2 a3) (hE : E < 2) (hs : s < 53) (hx : x = nI E) (hy : y = nI (sr_c s)) (hp : X (nI s)) :
    wpX_shapeOf (fun r1 => wpX_badElement (fun r2 => ((r2 = 0 → ((0 ≤ r1 → X r1) ∧ (¬ 0 ≤ r1 → Y))) ∧ (¬ r2 = 0 → Y))) (nI 53, a1, a2, a3, a4, a5, a6) x) (nI 53, a1, a2, a3, a4, a5, a6) y :=
  sr_shapeOf hT s hs (sr_bad0 E hE (br_t rfl (pk_le 0 s (fun _ => hp) (fun z => absurd z (by omega)))) hx) hy
theorem sr_coefficient1 {post : Int32 → Prop} {x y : Int32} (hT : sr_T a1 a2 a3) (h : (¬ (x = 0 ∨ x = 1)) ∨ sr_no y) (hp : post (-1)) : wpX_coefficient post (nI 53, a1, a2, a3, a4, a5, a6) x y := by
  unfold wpX_coefficient
  exact sr_sb1 hT h hp
end
end
section
/-! Counting fillings. -/
def sr_ft (p q r : Nat) (t : Int32) : Bool :=
  let n11 := nI (sr_A r) - nI (sr_A p)
  let n13 := nI (sr_A q) - n11 - t
  let n22 := nI (sr_B r) - nI (sr_B p) - t
  let n23 := nI (sr_B q) - n22
  let n33 := nI (sr_C q)
  !(decide (n11 < 0)) && !(decide (n13 < 0)) && !(decide (n22 < 0)) && !(decide (n23 < 0)) && decide (n13 + n23 + n33 = nI (sr_C r) - nI (sr_C p))
  && !(decide (nI (sr_A p) < nI (sr_B p) + t)) && !(decide (nI (sr_B p) < nI (sr_C p) + n13)) && !(decide (nI (sr_B p) + t < nI (sr_C p) + n13 + n23))
  && !(decide (n11 < n22)) && !(decide (n22 < n33)) && !(decide (n11 + t < n22 + n23))
/-- the fillings with fewer than so many ones in the second row -/
def sr_cf (p q r : Nat) : Nat → Int32
  | 0 => 0
  | t + 1 => if sr_ft p q r (nI t) = true then sr_cf p q r t + 1 else sr_cf p q r t
def sr_CF (p q r : Nat) : Int32 := sr_cf p q r (sr_B r + 1 - sr_B p)
def sr_cf1b (k : Nat) : Bool := sr_CF (k / 53) (k % 53) (k / 53) == (if k % 53 = 0 then 1 else 0)
def sr_cf2b (k : Nat) : Bool := !(sr_sz (k / 53) == sr_sz (k % 53)) || (sr_CF 0 (k / 53) (k % 53) == (if k % 53 = k / 53 then 1 else 0))
def sr_cf3b (k : Nat) : Bool := sr_CF 0 k 1 == (if k = 1 then 1 else 0)
theorem sr_cf1c : (List.range 2809).all sr_cf1b = true := by decide +kernel
theorem sr_cf2c : (List.range 2809).all sr_cf2b = true := by decide +kernel
theorem sr_cf3c : (List.range 53).all sr_cf3b = true := by decide +kernel
theorem sr_CF1 {p q : Nat} (hp : p < 53) (hq : q < 53) : sr_CF p q p = if q = 0 then 1 else 0 := by
  have h := List.all_eq_true.mp sr_cf1c (53 * p + q) (List.mem_range.mpr (by omega))
  unfold sr_cf1b at h
  rw [show (53 * p + q) / 53 = p by omega, show (53 * p + q) % 53 = q by omega] at h
  exact beq_iff_eq.mp h
theorem sr_CF2 {q r : Nat} (hq : q < 53) (hr : r < 53) (hz : sr_sz r = sr_sz q) : sr_CF 0 q r = if r = q then 1 else 0 := by
  have h := List.all_eq_true.mp sr_cf2c (53 * q + r) (List.mem_range.mpr (by omega))
  unfold sr_cf2b at h
  rw [show (53 * q + r) / 53 = q by omega, show (53 * q + r) % 53 = r by omega, hz, beq_self_eq_true, Bool.not_true, Bool.false_or] at h
  exact beq_iff_eq.mp h
theorem sr_CF3 {q : Nat} (hq : q < 53) : sr_CF 0 q 1 = if q = 1 then 1 else 0 :=
  beq_iff_eq.mp (List.all_eq_true.mp sr_cf3c q (List.mem_range.mpr hq))
section
variable {f : Int32} {a1 a2 a3 a4 a5 a6 : Nat → Int32} {E s : Nat} {m : Int32}
theorem sr_f218 {post : Int32 → Prop} {x y z : Int32} (h0 : (x = 0 ∨ y = 0 ∨ z = 0) → post 0) (h1 : ¬ x = 0 → ¬ y = 0 → ¬ z = 0 → post 1) : wX_fits_218 post x y z f a1 a2 a3 a4 a5 a6 :=
  br_c (fun q => h0 (Or.inl q)) (fun q1 => br_c (fun q => h0 (Or.inr (Or.inl q))) (fun q2 => br_c (fun q => h0 (Or.inr (Or.inr q))) (fun q3 => h1 q1 q2 q3)))
theorem sr_f184 {post : Int32 → Prop} {x4 x5 x7 x8 x9 x10 z0 : Int32} (h0 : (x10 = 0 ∨ z0 = 0 ∨ x5 < x7 ∨ x7 < x9 ∨ x5 + x4 < x7 + x8) → post 0) (h1 : ¬ x10 = 0 → ¬ z0 = 0 → ¬ x5 < x7 → ¬ x7 < x9 → ¬ x5 + x4 < x7 + x8 → post 1) :
    wX_fits_184 post x4 x5 x7 x8 x9 x10 z0 f a1 a2 a3 a4 a5 a6 := by
  have no : (x5 < x7 ∨ x7 < x9 ∨ x5 + x4 < x7 + x8) → wX_fits_217 post x10 z0 f a1 a2 a3 a4 a5 a6 := by
    intro q
    unfold wX_fits_217
    exact sr_f218 (fun _ => h0 (Or.inr (Or.inr q))) (fun _ _ z => absurd rfl z)
  refine br_c (fun q => no (Or.inl q)) (fun q1 => br_c (fun q => no (Or.inr (Or.inl q))) (fun q2 => br_c (fun q => no (Or.inr (Or.inr q))) (fun q3 => ?_)))
  refine sr_f218 (fun q => ?_) (fun g1 g2 _ => h1 g1 g2 q1 q2 q3)
  rcases q with q | q | q
  · exact h0 (Or.inl q)
  · exact h0 (Or.inr (Or.inl q))
  · exact absurd q (by decide)
theorem sr_fits {post : Int32 → Prop} {t : Int32} (hT : sr_T a1 a2 a3) {p q r : Nat} (hp : p < 53) (hq : q < 53) (hr : r < 53) (H : post (if sr_ft p q r t = true then 1 else 0)) : wpX_fits post (f, a1, a2, a3, a4, a5, a6) (nI p) (nI q) (nI r) t := by
  have vp : vp_in (nI p) 60 := pk_in p 60 (by omega)
  have vq : vp_in (nI q) 60 := pk_in q 60 (by omega)
  have vr : vp_in (nI r) 60 := pk_in r 60 (by omega)
  have ep := nI_clamp (show p < 2 ^ 31 by omega)
  have eq := nI_clamp (show q < 2 ^ 31 by omega)
  have er := nI_clamp (show r < 2 ^ 31 by omega)
  obtain ⟨p1, p2, p3⟩ := hT p hp
  obtain ⟨q1, q2, q3⟩ := hT q hq
  obtain ⟨r1, r2, r3⟩ := hT r hr
  have h153 : ∀ n11 n13 n22 n23 n33 z : Int32, ((z = 0 ∨ nI (sr_B p) + t < nI (sr_C p) + n13 + n23 ∨ n11 < n22 ∨ n22 < n33 ∨ n11 + t < n22 + n23) → post 0) →
      (¬ z = 0 → ¬ nI (sr_B p) + t < nI (sr_C p) + n13 + n23 → ¬ n11 < n22 → ¬ n22 < n33 → ¬ n11 + t < n22 + n23 → post 1) → wX_fits_153 post (nI p) t n11 n13 n22 n23 n33 z f a1 a2 a3 a4 a5 a6 := by
    intro n11 n13 n22 n23 n33 z h0 h1
    refine ⟨vp, vp, ?_⟩
    rw [ep, p2, p3]
    refine br_c (fun g => sr_f184 (fun _ => h0 (Or.inr (Or.inl g))) (fun _ z => absurd rfl z)) (fun g => sr_f184 (fun w => ?_) (fun g1 _ g3 g4 g5 => h1 g1 g g3 g4 g5))
    rcases w with w | w | w
    · exact h0 (Or.inl w)
    · exact absurd w (by decide)
    · exact h0 (Or.inr (Or.inr w))
  have h0 : sr_ft p q r t = false → post 0 := by
    intro e
    rw [e] at H
    exact H
  have h1 : sr_ft p q r t = true → post 1 := by
    intro e
    rw [e] at H
    exact H
  unfold sr_ft at h0 h1
  dsimp only at h0 h1
  have e11 : a1 (nI r).toNatClampNeg - a1 (nI p).toNatClampNeg = nI (sr_A r) - nI (sr_A p) := by rw [ep, er, p1, r1]
  have e13 : a1 (nI q).toNatClampNeg - (nI (sr_A r) - nI (sr_A p)) - t = nI (sr_A q) - (nI (sr_A r) - nI (sr_A p)) - t := by rw [eq, q1]
  have e22 : a2 (nI r).toNatClampNeg - a2 (nI p).toNatClampNeg - t = nI (sr_B r) - nI (sr_B p) - t := by rw [ep, er, p2, r2]
  have e23 : a2 (nI q).toNatClampNeg - (nI (sr_B r) - nI (sr_B p) - t) = nI (sr_B q) - (nI (sr_B r) - nI (sr_B p) - t) := by rw [eq, q2]
  have e33 : a3 (nI q).toNatClampNeg = nI (sr_C q) := by rw [eq, q3]
  refine ⟨vr, vp, nm_r e11 ⟨vq, nm_r e13 ⟨vr, vp, nm_r e22 ⟨vq, nm_r e23 ⟨vq, nm_r e33 ?_⟩⟩⟩⟩⟩
  clear e11 e13 e22 e23 e33
  generalize nI (sr_A r) - nI (sr_A p) = n11 at h0 h1 ⊢
  generalize nI (sr_A q) - n11 - t = n13 at h0 h1 ⊢
  generalize nI (sr_B r) - nI (sr_B p) - t = n22 at h0 h1 ⊢
  generalize nI (sr_B q) - n22 = n23 at h0 h1 ⊢
  generalize nI (sr_C q) = n33 at h0 h1 ⊢
  refine br_c (fun g => h0 (by simp [g])) (fun g1 => br_c (fun g => h0 (by simp [g])) (fun g2 => br_c (fun g => h0 (by simp [g])) (fun g3 => br_c (fun g => h0 (by simp [g])) (fun g4 => ⟨vr, vp, ?_⟩))))
  rw [ep, er, p1, p2, p3, r3]
  refine br_c (fun g5 => ⟨vp, vp, ?_⟩) (fun g => h0 (by simp [g]))
  refine br_c (fun g => ?_) (fun g6 => ⟨vp, vp, ?_⟩)
  · unfold wX_fits_152
    exact h153 _ _ _ _ _ _ (fun _ => h0 (by simp [g])) (fun z => absurd rfl z)
  refine br_c (fun g => ?_) (fun g7 => ?_)
  · unfold wX_fits_152
    exact h153 _ _ _ _ _ _ (fun _ => h0 (by simp [g])) (fun z => absurd rfl z)
  refine h153 _ _ _ _ _ _ (fun w => ?_) (fun _ w1 w2 w3 w4 => h1 (by simp [g1, g2, g3, g4, g5, g6, g7, w1, w2, w3, w4]))
  rcases w with w | w | w | w | w
  · exact absurd w (by decide)
  · exact h0 (by simp [w])
  · exact h0 (by simp [w])
  · exact h0 (by simp [w])
  · exact h0 (by simp [w])
theorem sr_countFillings {post : Int32 → Prop} {x y z : Int32} (hT : sr_T a1 a2 a3) (p q r : Nat) (hp : p < 53) (hq : q < 53) (hr : r < 53) (H : post (sr_CF p q r)) (hx : x = nI p := by rfl) (hy : y = nI q := by rfl) (hz : z = nI r := by rfl) :
    wpX_countFillings post (f, a1, a2, a3, a4, a5, a6) x y z := by
  subst hx hy hz
  have vp : vp_in (nI p) 60 := pk_in p 60 (by omega)
  have vr : vp_in (nI r) 60 := pk_in r 60 (by omega)
  have ep := nI_clamp (show p < 2 ^ 31 by omega)
  have er := nI_clamp (show r < 2 ^ 31 by omega)
  have p2 := (hT p hp).2.1
  have r2 := (hT r hr).2.1
  have bp := sr_bnd p hp
  have br := sr_bnd r hr
  refine pk_loop (fun n i x => wX_countFillings_6 post (nI p) (nI q) (nI r) f a1 a2 a3 a4 a5 a6 n x (nI i)) (fun i x => x = sr_cf p q r i) (sr_B r + 1 - sr_B p) 0 0 (by omega) rfl ?_ ?_
  · intro n x hx
    refine ⟨vr, vp, ?_⟩
    rw [ep, er, p2, r2]
    refine br_t ?_ (by rw [hx]; exact H)
    by_cases e : sr_B p ≤ sr_B r
    · rw [pk_sub e]
      exact nI_lt (by omega) (by omega)
    · rw [show sr_B r + 1 - sr_B p = 0 by omega]
      exact pk_sneg (by omega) (by omega)
  · intro n i x hi hx hw
    refine ⟨vr, vp, ?_⟩
    rw [ep, er, p2, r2]
    refine br_f ?_ (sr_fits hT hp hq hr ?_)
    · rw [pk_sub (show sr_B p ≤ sr_B r by omega)]
      exact nI_nlt (by omega) (by omega)
    · by_cases e : sr_ft p q r (nI i) = true
      · rw [if_pos e]
        refine br_f (by decide) (nm_e (nm_r (nI_1 i) (hw (x + 1) ?_)))
        show x + 1 = if sr_ft p q r (nI i) = true then sr_cf p q r i + 1 else sr_cf p q r i
        rw [if_pos e, hx]
      · rw [if_neg e]
        refine br_t rfl (nm_r (nI_1 i) (hw x ?_))
        show x = if sr_ft p q r (nI i) = true then sr_cf p q r i + 1 else sr_cf p q r i
        rw [if_neg e, hx]
/-- number: all three are shapes; one is none -/
theorem sr_number {post : Int32 → Prop} {x y z : Int32} (hT : sr_T a1 a2 a3) (p q r : Nat) (hp : p < 53) (hq : q < 53) (hr : r < 53) (H : post (sr_CF p q r)) (hx : x = nI (sr_c p) := by rfl) (hy : y = nI (sr_c q) := by rfl) (hz : z = nI (sr_c r) := by rfl) :
    wpX_number post (nI 53, a1, a2, a3, a4, a5, a6) x y z := by
  unfold wpX_number
  exact sr_shapeOf hT p hp (sr_shapeOf hT q hq (sr_shapeOf hT r hr (pk_lt p 0 (fun z => absurd z (by omega)) (fun _ => pk_lt q 0 (fun z => absurd z (by omega)) (fun _ => pk_le 0 r (fun _ => sr_countFillings hT p q r hp hq hr H) (fun z => absurd z (by omega))))) hz) hy) hx
theorem sr_cases (x : Int32) : sr_no x ∨ ∃ s, s < 53 ∧ x = nI (sr_c s) := by
  by_cases c : sr_no x
  · exact Or.inl c
  · exact Or.inr (Classical.byContradiction (fun q => c (fun s hs e => q ⟨s, hs, e⟩)))
theorem sr_shapeOfA {post : Int32 → Prop} {x : Int32} (hT : sr_T a1 a2 a3) (h0 : sr_no x → post (-1)) (h1 : ∀ s, s < 53 → x = nI (sr_c s) → post (nI s)) : wpX_shapeOf post (nI 53, a1, a2, a3, a4, a5, a6) x := by
  rcases sr_cases x with c | ⟨s, hs, e⟩
  · exact sr_shapeOf0 hT c (h0 c)
  · exact sr_shapeOf hT s hs (h1 s hs e) e
theorem sr_number0 {post : Int32 → Prop} {x y z : Int32} (hT : sr_T a1 a2 a3) (h : sr_no x ∨ sr_no y ∨ sr_no z) (H : post (-1)) : wpX_number post (nI 53, a1, a2, a3, a4, a5, a6) x y z := by
  unfold wpX_number
  have k : ∀ s, s < 53 → ¬ nI s < 0 := fun s hs => nI_pos (by omega)
  refine sr_shapeOfA hT (fun _ => ?_) (fun p hp ex => ?_)
  · refine sr_shapeOfA hT (fun _ => ?_) (fun _ _ _ => ?_)
    · exact sr_shapeOfA hT (fun _ => br_t (by decide) H) (fun _ _ _ => br_t (by decide) H)
    · exact sr_shapeOfA hT (fun _ => br_t (by decide) H) (fun _ _ _ => br_t (by decide) H)
  · refine sr_shapeOfA hT (fun _ => ?_) (fun q hq ey => ?_)
    · exact sr_shapeOfA hT (fun _ => br_f (k p hp) (br_t (by decide) H)) (fun _ _ _ => br_f (k p hp) (br_t (by decide) H))
    · refine sr_shapeOfA hT (fun _ => br_f (k p hp) (br_f (k q hq) (br_f (by decide) H))) (fun r hr ez => ?_)
      rcases h with h | h | h
      · exact absurd ex (h p hp)
      · exact absurd ey (h q hq)
      · exact absurd ez (h r hr)
end
end
section
/-! One lemma a method: writing. -/
section
variable {f : Int32} {a1 a2 a3 a4 a5 a6 : Nat → Int32} {E s : Nat} {m : Int32}
theorem sr_clearMade {post : St2 → Prop} (H : ∀ b5, (∀ j, j < 60 → b5 j = 0) → post (f, a1, a2, a3, a4, b5, a6)) : wpX_clearMade post (f, a1, a2, a3, a4, a5, a6) := by
  refine pk_loop (fun n i b => wX_clearMade_2 post f n (nI i) a1 a2 a3 a4 b a6) (fun i b => ∀ j, j < i → b j = 0) 60 0 a5 (by omega) lt_0 ?_ ?_
  · intro n b hb
    exact pk_le 60 60 (fun _ => H b hb) (fun z => absurd z (by omega))
  · intro n i b hi hb hw
    refine pk_le 60 i (fun z => absurd z (by omega)) (fun _ => ⟨pk_in i 60 hi, nm_e (nm_r (nI_1 i) (hw _ ?_))⟩)
    intro j hj
    rw [nI_clamp (show i < 2 ^ 31 by omega)]
    by_cases e : j = i
    · rw [e, pk_us]
    · rw [pk_un e]
      exact hb j (by omega)
theorem sr_keepMade {post : St2 → Prop} {x : Int32} (hE : E < 2) (H : ∀ b4, (∀ j, j < 60 → b4 (60 * E + j) = a5 j) → (∀ k, (k < 60 * E ∨ 60 * E + 60 ≤ k) → b4 k = a4 k) → post (f, a1, a2, a3, b4, a5, a6)) (hx : x = nI E := by rfl) : wpX_keepMade post (f, a1, a2, a3, a4, a5, a6) x := by
  subst hx
  refine pk_loop (fun n i b => wX_keepMade_2 post (nI E) f n (nI i) a1 a2 a3 b a5 a6) (fun i b => (∀ j, j < i → b (60 * E + j) = a5 j) ∧ (∀ k, (k < 60 * E ∨ 60 * E + 60 ≤ k) → b k = a4 k)) 60 0 a4 (by omega) ⟨lt_0, fun _ _ => rfl⟩ ?_ ?_
  · intro n b hb
    exact pk_le 60 60 (fun _ => H b hb.1 hb.2) (fun z => absurd z (by omega))
  · intro n i b hi hb hw
    refine pk_le 60 i (fun z => absurd z (by omega)) (fun _ => ⟨pk_in i 60 hi, pk_in (60 * E + i) 120 (by omega) (sr_ix E i), nm_e (nm_r (nI_1 i) (hw _ ?_))⟩)
    rw [sr_ix, nI_clamp (show 60 * E + i < 2 ^ 31 by omega), nI_clamp (show i < 2 ^ 31 by omega)]
    constructor
    · intro j hj
      by_cases e : j = i
      · rw [e, pk_us]
      · rw [pk_un (by omega)]
        exact hb.1 j (by omega)
    · intro k hk
      rw [pk_un (by omega)]
      exact hb.2 k hk
theorem sr_keepOne {b4 b5 : Nat → Int32} (h : ∀ j, j < 60 → b4 (60 * E + j) = b5 j) (hb : ∀ j, j < 53 → b5 j = if j = s then m else 0) : sr_one b4 E s m := by
  intro j hj
  rw [h j (by omega), hb j hj]
theorem sr_0lt : (-4 : Int32) < 0 := by decide
theorem sr_product {post : Int32 → St2 → Prop} (hT : sr_T a1 a2 a3) (h0 : sr_one a4 0 0 0) (h1 : sr_one a4 1 0 0) (H : ∀ b4 b5, sr_one b4 0 0 0 → sr_one b4 1 0 0 → post 0 (nI 53, a1, a2, a3, b4, b5, a6)) : wpX_product post (nI 53, a1, a2, a3, a4, a5, a6) := by
  unfold wpX_product
  refine sr_degreeOf (E := 0) hT (by omega) h0 (by omega) ?_
  refine sr_degreeOf (E := 1) hT (by omega) h1 (by omega) ?_
  rw [if_pos rfl]
  refine br_t sr_0lt ?_
  unfold wX_product_31
  refine sr_clearMade (fun b5 hb5 => ?_)
  have ec : nI 53 * nI 53 = nI 2809 := pk_mul 53 53
  have hn : ¬ nI 53 = 0 := nI_ne0 (by omega) (by omega)
  refine pk_loop (σ := Unit) (fun n i _ => wX_product_37 post n (nI i) (nI 53) a1 a2 a3 a4 b5 a6) (fun _ _ => True) 2809 0 () (by omega) trivial ?_ ?_
  · intro n _ _
    refine pk_le 2809 2809 (fun _ => ?_) (fun z => absurd z (by omega)) ec
    refine sr_keepMade (E := 0) (by omega) (fun b4 k1 k2 => ?_)
    refine H b4 b5 (sr_keepOne k1 (fun j hj => ?_)) (fun j hj => ?_)
    · rw [hb5 j (by omega), ite_self]
    · rw [k2 (60 * 1 + j) (by omega)]
      exact h1 j hj
  · intro n i _ hi _ hw
    have ed : nI i / nI 53 = nI (i / 53) := pk_div (by omega) (by omega) (by omega)
    have er : nI i - nI i / nI 53 * nI 53 = nI (i % 53) := pk_rem (by omega) (by omega) (by omega)
    refine pk_le 2809 i (fun z => absurd z (by omega)) (fun _ => ⟨hn, sr_get 0 (i / 53) (by omega) (by omega) ⟨hn, sr_get 1 (i % 53) (by omega) (by omega) ?_ rfl er⟩ rfl ed⟩) ec
    refine nm_r (e' := 0) ?_ (br_t rfl (nm_r (nI_1 i) (hw () trivial)))
    rw [h0 _ (show i / 53 < 53 by omega), ite_self, Int32.zero_mul]
theorem sr_add {post : Int32 → St2 → Prop} {x y n : Int32} (hT : sr_T a1 a2 a3) (hE : E < 2) (hs : s < 53) (h0 : sr_one a4 E 0 0) (H : ∀ b4, sr_one b4 E s n → post 0 (nI 53, a1, a2, a3, b4, a5, a6)) (hx : x = nI E := by rfl) (hy : y = nI (sr_c s) := by rfl) : wpX_add post (nI 53, a1, a2, a3, a4, a5, a6) x y n := by
  subst hx
  unfold wpX_add
  refine sr_sb0 hT hE hs rfl hy ?_
  have hv := pk_in (60 * E + s) 120 (by omega) (sr_ix E s)
  refine ⟨hv, hv, nm_e (H _ ?_)⟩
  rw [sr_ix, nI_clamp (show 60 * E + s < 2 ^ 31 by omega)]
  intro j hj
  by_cases e : j = s
  · rw [e, pk_us, if_pos rfl, h0 s hs, ite_self, Int32.zero_add]
  · rw [pk_un (by omega), if_neg e, h0 j hj, ite_self]
theorem sr_add1 {post : Int32 → St2 → Prop} {x y n : Int32} (hT : sr_T a1 a2 a3) (h : (¬ (x = 0 ∨ x = 1)) ∨ sr_no y) (H : post (-1) (nI 53, a1, a2, a3, a4, a5, a6)) : wpX_add post (nI 53, a1, a2, a3, a4, a5, a6) x y n := by
  unfold wpX_add
  exact sr_sb1 hT h H
theorem sr_scale {post : Int32 → St2 → Prop} {x y : Int32} (hE : E < 2) (hs : s < 53) (h1 : sr_one a4 E s m) (H : ∀ b4, sr_one b4 E s (m * y) → post 0 (nI 53, a1, a2, a3, b4, a5, a6)) (hx : x = nI E := by rfl) : wpX_scale post (nI 53, a1, a2, a3, a4, a5, a6) x y := by
  subst hx
  unfold wpX_scale
  refine sr_bad0 E hE (br_t rfl ?_)
  refine pk_loop (fun n i b => wX_scale_12 post (nI E) y (nI 53) n (nI i) a1 a2 a3 b a5 a6) (fun i b => ∀ j, j < 53 → b (60 * E + j) = if j = s then (if j < i then m * y else m) else 0) 53 0 a4 (by omega) (fun j hj => by rw [if_neg (show ¬ j < 0 by omega)]; exact h1 j hj) ?_ ?_
  · intro n b hb
    refine pk_le 53 53 (fun _ => H b (fun j hj => ?_)) (fun z => absurd z (by omega))
    have := hb j hj
    rw [if_pos hj] at this
    exact this
  · intro n i b hi hb hw
    have hv := pk_in (60 * E + i) 120 (by omega) (sr_ix E i)
    refine pk_le 53 i (fun z => absurd z (by omega)) (fun _ => ⟨hv, hv, nm_e (nm_r (nI_1 i) (hw _ ?_))⟩)
    rw [sr_ix, nI_clamp (show 60 * E + i < 2 ^ 31 by omega)]
    intro j hj
    by_cases e : j = i
    · rw [e, pk_us, hb i hi, if_neg (show ¬ i < i by omega), if_pos (show i < i + 1 by omega)]
      by_cases es : i = s
      · rw [if_pos es, if_pos es]
      · rw [if_neg es, if_neg es, Int32.zero_mul]
    · rw [pk_un (by omega), hb j hj]
      by_cases es : j = s
      · rw [if_pos es, if_pos es]
        by_cases ej : j < i
        · rw [if_pos ej, if_pos (by omega)]
        · rw [if_neg ej, if_neg (by omega)]
      · rw [if_neg es, if_neg es]
theorem sr_scale1 {post : Int32 → St2 → Prop} {x y : Int32} (h : ¬ (x = 0 ∨ x = 1)) (H : post (-1) (f, a1, a2, a3, a4, a5, a6)) : wpX_scale post (f, a1, a2, a3, a4, a5, a6) x y := by
  unfold wpX_scale
  exact sr_bad1 h (br_f (by decide) H)
/-- part: another size than the shape's: nothing is left -/
theorem sr_part {post : Int32 → St2 → Prop} {x y : Int32} (hT : sr_T a1 a2 a3) (hE : E < 2) (hs : s < 53) (h1 : sr_one a4 E s m) (k : Nat) (hk : k ≤ 9) (hk2 : k ≠ sr_sz s) (H : ∀ b4, sr_one b4 E 0 0 → post 0 (nI 53, a1, a2, a3, b4, a5, a6)) (hx : x = nI E := by rfl) (hy : y = nI k := by rfl) : wpX_part post (nI 53, a1, a2, a3, a4, a5, a6) x y := by
  subst hx hy
  unfold wpX_part
  refine sr_bad0 E hE (br_t rfl (pk_lt k 0 (fun z => absurd z (by omega)) (fun _ => pk_le k 9 (fun _ => ?_) (fun z => absurd z (by omega)))))
  refine pk_loop (fun n i b => wX_part_22 post (nI E) (nI k) (nI 53) n (nI i) a1 a2 a3 b a5 a6) (fun i b => ∀ j, j < 53 → b (60 * E + j) = if i ≤ j ∧ j = s then m else 0) 53 0 a4 (by omega) (fun j hj => ?_) ?_ ?_
  · rw [h1 j hj]
    by_cases e : j = s
    · rw [if_pos e, if_pos ⟨by omega, e⟩]
    · rw [if_neg e, if_neg (fun t => e t.2)]
  · intro n b hb
    refine pk_le 53 53 (fun _ => H b (fun j hj => ?_)) (fun z => absurd z (by omega))
    rw [hb j hj, if_neg (by omega), ite_self]
  · intro n i b hi hb hw
    have hv := pk_in (60 * E + i) 120 (by omega) (sr_ix E i)
    have bi := sr_bnd i hi
    have bs := sr_bnd s hs
    refine pk_le 53 i (fun z => absurd z (by omega)) (fun _ => sr_sizeOf hT i hi ?_)
    refine pk_eq (sr_sz i) k (fun z => ⟨hv, hv, nm_e (nm_r (nI_1 i) (hw _ ?_))⟩) (fun z => ⟨hv, nm_e (nm_r (nI_1 i) (hw _ ?_))⟩) rfl rfl (by unfold sr_sz; omega)
    · rw [sr_ix, nI_clamp (show 60 * E + i < 2 ^ 31 by omega)]
      intro j hj
      have es : i ≠ s := fun t => hk2 (by rw [← z, t])
      by_cases e : j = i
      · rw [e, pk_us, hb i hi, if_neg (fun t => es t.2), if_neg (fun t => es t.2)]
      · rw [pk_un (by omega), hb j hj]
        by_cases c : i ≤ j ∧ j = s
        · rw [if_pos c, if_pos ⟨by omega, c.2⟩]
        · rw [if_neg c, if_neg (fun t => c ⟨by omega, t.2⟩)]
    · rw [sr_ix, nI_clamp (show 60 * E + i < 2 ^ 31 by omega)]
      intro j hj
      by_cases e : j = i
      · rw [e, pk_us, if_neg (by omega)]
      · rw [pk_un (by omega), hb j hj]
        by_cases c : i ≤ j ∧ j = s
        · rw [if_pos c, if_pos ⟨by omega, c.2⟩]
        · rw [if_neg c, if_neg (fun t => c ⟨by omega, t.2⟩)]
/-- part of degree 10: never -/
theorem sr_part10 {post : Int32 → St2 → Prop} {x : Int32} (H : post (-1) (f, a1, a2, a3, a4, a5, a6)) : wpX_part post (f, a1, a2, a3, a4, a5, a6) x 10 := by
  unfold wpX_part
  by_cases d : x = 0 ∨ x = 1
  · have hx : ∃ E, E < 2 ∧ x = nI E := by
      rcases d with d | d
      · exact ⟨0, by omega, d⟩
      · exact ⟨1, by omega, d⟩
    obtain ⟨E, hE, hx⟩ := hx
    exact sr_bad0 E hE (br_t rfl (br_f (by decide) (br_f (by decide) H))) hx
  · exact sr_bad1 d (br_f (by decide) H)
/-- skew by the element's own shape -/
theorem sr_skew {post : Int32 → St2 → Prop} {x y : Int32} (hT : sr_T a1 a2 a3) (hE : E < 2) (hs : s < 53) (h1 : sr_one a4 E s m) (H : ∀ b4 b5, sr_one b4 E 0 m → post 0 (nI 53, a1, a2, a3, b4, b5, a6)) (hx : x = nI E := by rfl) (hy : y = nI (sr_c s) := by rfl) : wpX_skew post (nI 53, a1, a2, a3, a4, a5, a6) x y := by
  subst hx
  unfold wpX_skew
  refine sr_sb0 hT hE hs rfl hy ?_
  refine sr_clearMade (fun c5 hc5 => ?_)
  have ec : nI 53 * nI 53 = nI 2809 := pk_mul 53 53
  have hn : ¬ nI 53 = 0 := nI_ne0 (by omega) (by omega)
  refine pk_loop (fun n i b => wX_skew_27 post (nI E) (nI s) (nI 53) n (nI i) a1 a2 a3 a4 b a6) (fun i b => ∀ j, j < 53 → b j = if j = 0 ∧ s < i then m else 0) 2809 0 c5 (by omega) (fun j hj => by rw [hc5 j (by omega), if_neg (by omega)]) ?_ ?_
  · intro n b hb
    refine pk_le 2809 2809 (fun _ => ?_) (fun z => absurd z (by omega)) ec
    refine sr_keepMade (E := E) hE (fun b4 k1 k2 => H b4 b (sr_keepOne k1 (fun j hj => ?_)))
    rw [hb j hj]
    by_cases e : j = 0
    · rw [if_pos e, if_pos ⟨e, by omega⟩]
    · rw [if_neg e, if_neg (fun t => e t.1)]
  · intro n i b hi hb hw
    have ed : nI i / nI 53 = nI (i / 53) := pk_div (by omega) (by omega) (by omega)
    have er : nI i - nI i / nI 53 * nI 53 = nI (i % 53) := pk_rem (by omega) (by omega) (by omega)
    have hq : i / 53 < 53 := by omega
    have hr : i % 53 < 53 := by omega
    refine pk_le 2809 i (fun z => absurd z (by omega)) (fun _ => ⟨hn, nm_r ed ⟨hn, nm_r er (sr_get E (i % 53) hE (by omega) ?_)⟩⟩) ec
    rw [h1 _ hr]
    have same : (¬ m = 0 → ¬ i % 53 = s) → ∀ j, j < 53 → b j = if j = 0 ∧ s < i + 1 then m else 0 := by
      intro hm j hj
      rw [hb j hj]
      by_cases em : m = 0
      · rw [em, ite_self, ite_self]
      · have := hm em
        by_cases c : j = 0 ∧ s < i
        · rw [if_pos c, if_pos ⟨c.1, by omega⟩]
        · rw [if_neg c, if_neg (fun t => c ⟨t.1, by omega⟩)]
    by_cases e : i % 53 = s
    · rw [if_pos e]
      by_cases em : m = 0
      · exact br_t em (nm_r (nI_1 i) (hw b (same (fun t => absurd em t))))
      · have hv : vp_in (nI (i / 53)) 60 := pk_in (i / 53) 60 (by omega)
        refine br_f em ⟨hv, sr_countFillings hT s (i / 53) s hs hq hs ⟨hv, nm_e (nm_r (nI_1 i) (hw _ ?_))⟩ rfl rfl (by rw [e])⟩
        rw [nI_clamp (show i / 53 < 2 ^ 31 by omega), sr_CF1 hs hq]
        intro j hj
        by_cases ej : j = i / 53
        · rw [← ej, pk_us, hb j hj]
          by_cases z : j = 0
          · rw [if_neg (by omega), if_pos z, if_pos ⟨z, by omega⟩, Int32.mul_one, Int32.zero_add]
          · rw [if_neg (fun t => z t.1), if_neg z, if_neg (fun t => z t.1), Int32.mul_zero, Int32.add_zero]
        · rw [pk_un ej, hb j hj]
          by_cases c : j = 0 ∧ s < i
          · rw [if_pos c, if_pos ⟨c.1, by omega⟩]
          · rw [if_neg c, if_neg (fun t => c ⟨t.1, by omega⟩)]
    · rw [if_neg e]
      exact br_t rfl (nm_r (nI_1 i) (hw b (same (fun _ => e))))
theorem sr_skew1 {post : Int32 → St2 → Prop} {x y : Int32} (hT : sr_T a1 a2 a3) (h : (¬ (x = 0 ∨ x = 1)) ∨ sr_no y) (H : post (-1) (nI 53, a1, a2, a3, a4, a5, a6)) : wpX_skew post (nI 53, a1, a2, a3, a4, a5, a6) x y := by
  unfold wpX_skew
  exact sr_sb1 hT h H
end
end
section
/-! Products. -/
section
variable {f : Int32} {a1 a2 a3 a4 a5 a6 : Nat → Int32} {E s : Nat} {m : Int32}
theorem sr_sz0 : sr_sz 0 = 0 := by decide +kernel
/-- m times the empty shape by shape q, into an empty 'made' -/
theorem sr_multiply {post : St2 → Prop} {x y : Int32} (hT : sr_T a1 a2 a3) (q : Nat) (hq : q < 53) (h5 : ∀ j, j < 53 → a5 j = 0) (H : ∀ b5, (∀ j, j < 53 → b5 j = if j = q then m else 0) → post (nI 53, a1, a2, a3, a4, b5, a6)) (hx : x = nI 0 := by rfl) (hy : y = nI q := by rfl) : wpX_multiply post (nI 53, a1, a2, a3, a4, a5, a6) x y m := by
  subst hx hy
  unfold wpX_multiply
  have bq := sr_bnd q hq
  refine sr_sizeOf hT 0 (by omega) (sr_sizeOf hT q hq (nm_r (e' := nI (sr_sz q)) (by rw [sr_sz0, nI_add, Nat.zero_add]) ?_))
  refine pk_loop (fun n i b => wX_multiply_16 post (nI 0) (nI q) m (nI (sr_sz q)) (nI 53) n (nI i) a1 a2 a3 a4 b a6) (fun i b => ∀ j, j < 53 → b j = if j = q ∧ q < i then m else 0) 53 0 a5 (by omega) (fun j hj => by rw [h5 j hj, if_neg (by omega)]) ?_ ?_
  · intro n b hb
    refine pk_le 53 53 (fun _ => H b (fun j hj => ?_)) (fun z => absurd z (by omega))
    rw [hb j hj]
    by_cases e : j = q
    · rw [if_pos e, if_pos ⟨e, hq⟩]
    · rw [if_neg e, if_neg (fun t => e t.1)]
  · intro n i b hi hb hw
    have bi := sr_bnd i hi
    have hv : vp_in (nI i) 60 := pk_in i 60 (by omega)
    refine pk_le 53 i (fun z => absurd z (by omega)) (fun _ => sr_sizeOf hT i hi ?_)
    refine pk_eq (sr_sz i) (sr_sz q) (fun z => ?_) (fun z => nm_r (nI_1 i) (hw b ?_)) rfl rfl (by unfold sr_sz; omega) (by unfold sr_sz; omega)
    · refine sr_countFillings hT 0 q i (by omega) hq hi ⟨hv, hv, nm_e (nm_r (nI_1 i) (hw _ ?_))⟩
      rw [nI_clamp (show i < 2 ^ 31 by omega), sr_CF2 hq hi z]
      intro j hj
      by_cases e : j = i
      · rw [e, pk_us, hb i hi, if_neg (by omega)]
        by_cases c : i = q
        · rw [if_pos c, if_pos ⟨c, by omega⟩, Int32.mul_one, Int32.zero_add]
        · rw [if_neg c, if_neg (fun t => c t.1), Int32.mul_zero, Int32.add_zero]
      · rw [pk_un e, hb j hj]
        by_cases c : j = q ∧ q < i
        · rw [if_pos c, if_pos ⟨c.1, by omega⟩]
        · rw [if_neg c, if_neg (fun t => c ⟨t.1, by omega⟩)]
    · intro j hj
      rw [hb j hj]
      have e : i ≠ q := fun t => z (by rw [t])
      by_cases c : j = q ∧ q < i
      · rw [if_pos c, if_pos ⟨c.1, by omega⟩]
      · rw [if_neg c, if_neg (fun t => c ⟨t.1, by omega⟩)]
/-- m times the empty shape becomes m times shape s -/
theorem sr_timesShape {post : Int32 → St2 → Prop} {x y : Int32} (hT : sr_T a1 a2 a3) (hE : E < 2) (hs : s < 53) (h1 : sr_one a4 E 0 m) (H : ∀ b4 b5, sr_one b4 E s m → post 0 (nI 53, a1, a2, a3, b4, b5, a6)) (hx : x = nI E := by rfl) (hy : y = nI (sr_c s) := by rfl) : wpX_timesShape post (nI 53, a1, a2, a3, a4, a5, a6) x y := by
  subst hx
  unfold wpX_timesShape
  refine sr_sb0 hT hE hs rfl hy ?_
  have main : wX_timesShape_48 post (nI E) (nI s) (nI 53) a1 a2 a3 a4 a5 a6 := by
    unfold wX_timesShape_48
    refine sr_clearMade (fun c5 hc5 => ?_)
    refine pk_loop (fun n i b => wX_timesShape_55 post (nI E) (nI s) n (nI i) (nI 53) a1 a2 a3 a4 b a6) (fun i b => ∀ j, j < 53 → b j = if j = s ∧ 0 < i then m else 0) 53 0 c5 (by omega) (fun j hj => by rw [hc5 j (by omega), if_neg (by omega)]) ?_ ?_
    · intro n b hb
      refine pk_le 53 53 (fun _ => ?_) (fun z => absurd z (by omega))
      refine sr_keepMade (E := E) hE (fun b4 k1 k2 => H b4 b (sr_keepOne k1 (fun j hj => ?_)))
      rw [hb j hj]
      by_cases e : j = s
      · rw [if_pos e, if_pos ⟨e, by omega⟩]
      · rw [if_neg e, if_neg (fun t => e t.1)]
    · intro n i b hi hb hw
      refine pk_le 53 i (fun z => absurd z (by omega)) (fun _ => sr_get E i hE (by omega) ?_)
      rw [h1 i hi]
      by_cases e : i = 0
      · rw [if_pos e]
        by_cases em : m = 0
        · refine br_t em (nm_r (nI_1 i) (hw b (fun j hj => ?_)))
          rw [hb j hj, em, ite_self, ite_self]
        · refine br_f em (sr_multiply hT s hs (fun j hj => ?_) (fun b5 hb5 => nm_r (nI_1 i) (hw b5 (fun j hj => ?_))) (by rw [e]))
          · rw [hb j hj, if_neg (by omega)]
          · rw [hb5 j hj]
            by_cases c : j = s
            · rw [if_pos c, if_pos ⟨c, by omega⟩]
            · rw [if_neg c, if_neg (fun t => c t.1)]
      · rw [if_neg e]
        refine br_t rfl (nm_r (nI_1 i) (hw b (fun j hj => ?_)))
        rw [hb j hj]
        by_cases c : j = s
        · rw [if_pos ⟨c, by omega⟩, if_pos ⟨c, by omega⟩]
        · rw [if_neg (fun t => c t.1), if_neg (fun t => c t.1)]
  refine sr_degreeOf hT hE h1 (by omega) ?_
  have bs := sr_bnd s hs
  by_cases em : m = 0
  · rw [if_pos em]
    exact br_t sr_0lt main
  · rw [if_neg em, sr_sz0]
    refine br_f (by decide) (sr_sizeOf hT s hs ?_)
    exact pk_le (0 + sr_sz s) 9 (fun _ => main) (fun z => absurd z (by unfold sr_sz; omega)) (nI_add _ _) rfl (by unfold sr_sz; omega)
theorem sr_timesShape1 {post : Int32 → St2 → Prop} {x y : Int32} (hT : sr_T a1 a2 a3) (h : (¬ (x = 0 ∨ x = 1)) ∨ sr_no y) (H : post (-1) (nI 53, a1, a2, a3, a4, a5, a6)) : wpX_timesShape post (nI 53, a1, a2, a3, a4, a5, a6) x y := by
  unfold wpX_timesShape
  exact sr_sb1 hT h H
/-- timesPower that is refused: no element, or no power -/
theorem sr_timesPower1 {post : Int32 → St2 → Prop} {x y : Int32} (h : (¬ (x = 0 ∨ x = 1)) ∨ y < 1 ∨ ¬ y ≤ 9) (H : post (-1) (f, a1, a2, a3, a4, a5, a6)) : wpX_timesPower post (f, a1, a2, a3, a4, a5, a6) x y := by
  unfold wpX_timesPower
  by_cases d : x = 0 ∨ x = 1
  · have hx : ∃ E, E < 2 ∧ x = nI E := by
      rcases d with d | d
      · exact ⟨0, by omega, d⟩
      · exact ⟨1, by omega, d⟩
    obtain ⟨E, hE, hx⟩ := hx
    refine sr_bad0 E hE (br_t rfl (br_c (fun _ => H) (fun g => br_c (fun g2 => ?_) (fun _ => H)))) hx
    rcases h with h | h | h
    · exact absurd d h
    · exact absurd h g
    · exact absurd g2 h
  · exact sr_bad1 d (br_f (by decide) H)
/-- too much -/
theorem sr_timesPower2 {post : Int32 → St2 → Prop} {x y : Int32} (hT : sr_T a1 a2 a3) (hE : E < 2) (hs : s < 53) (h1 : sr_one a4 E s m) (hm : ¬ m = 0) (k : Nat) (hk0 : 1 ≤ k) (hk : k ≤ 9) (hk2 : 9 < sr_sz s + k) (H : post (-2) (nI 53, a1, a2, a3, a4, a5, a6)) (hx : x = nI E := by rfl) (hy : y = nI k := by rfl) : wpX_timesPower post (nI 53, a1, a2, a3, a4, a5, a6) x y := by
  subst hx hy
  have bs := sr_bnd s hs
  have bz : sr_sz s ≤ 9 := by unfold sr_sz; omega
  unfold wpX_timesPower
  refine sr_bad0 E hE (br_t rfl (pk_lt k 1 (fun z => absurd z (by omega)) (fun _ => pk_le k 9 (fun _ => sr_degreeOf hT hE h1 hs ?_) (fun z => absurd z (by omega)))))
  rw [if_neg hm]
  exact br_f (nI_pos (by omega)) (pk_le (sr_sz s + k) 9 (fun z => absurd z (by omega)) (fun _ => H) (nI_add _ _))
/-- an empty element stays empty -/
theorem sr_timesPower0 {post : Int32 → St2 → Prop} {x y : Int32} (hT : sr_T a1 a2 a3) (hE : E < 2) (h1 : sr_one a4 E 0 0) (k : Nat) (hk0 : 1 ≤ k) (hk : k ≤ 9) (H : ∀ b4 b5, sr_one b4 E 0 0 → post 0 (nI 53, a1, a2, a3, b4, b5, a6)) (hx : x = nI E := by rfl) (hy : y = nI k := by rfl) : wpX_timesPower post (nI 53, a1, a2, a3, a4, a5, a6) x y := by
  subst hx hy
  unfold wpX_timesPower
  refine sr_bad0 E hE (br_t rfl (pk_lt k 1 (fun z => absurd z (by omega)) (fun _ => pk_le k 9 (fun _ => sr_degreeOf hT hE h1 (by omega) ?_) (fun z => absurd z (by omega)))))
  rw [if_pos rfl]
  refine br_t sr_0lt ?_
  unfold wX_timesPower_42
  refine sr_clearMade (fun c5 hc5 => ?_)
  refine pk_loop (σ := Unit) (fun n i _ => wX_timesPower_49 post (nI E) (nI k) n (nI i) (nI 53) a1 a2 a3 a4 c5 a6) (fun _ _ => True) 53 0 () (by omega) trivial ?_ ?_
  · intro n _ _
    refine pk_le 53 53 (fun _ => ?_) (fun z => absurd z (by omega))
    refine sr_keepMade (E := E) hE (fun b4 k1 k2 => H b4 c5 (sr_keepOne k1 (fun j hj => ?_)))
    rw [hc5 j (by omega), ite_self]
  · intro n i _ hi _ hw
    refine pk_le 53 i (fun z => absurd z (by omega)) (fun _ => sr_get E i hE (by omega) ⟨1, ?_⟩)
    rw [h1 i hi, ite_self]
    exact pk_le 3 0 (fun z => absurd z (by omega)) (fun _ => br_t rfl (nm_r (nI_1 i) (hw () trivial)))
end
end
section
/-! Values and monomials. -/
def sr_h1 (x : Int32) : Nat → Int32
  | 0 => 1
  | d + 1 => sr_h1 x d * x
def sr_h2 (x y : Int32) : Nat → Int32
  | 0 => 1
  | d + 1 => sr_h1 x (d + 1) + y * sr_h2 x y d
def sr_h3 (x y z : Int32) : Nat → Int32
  | 0 => 1
  | d + 1 => sr_h2 x y (d + 1) + z * sr_h3 x y z d
theorem sr_h2b (x y : Int32) : ∀ d, sr_h2 x y (d + 1) = sr_h1 y (d + 1) + x * sr_h2 x y d
  | 0 => by simp only [sr_h1, sr_h2]; grind
  | d + 1 => by
    have ih := sr_h2b x y d
    have e1 : sr_h2 x y (d + 2) = sr_h1 x (d + 1) * x + y * sr_h2 x y (d + 1) := rfl
    have e2 : sr_h2 x y (d + 1) = sr_h1 x (d + 1) + y * sr_h2 x y d := rfl
    have e3 : sr_h1 y (d + 2) = sr_h1 y (d + 1) * y := rfl
    rw [e1, e3]
    generalize sr_h2 x y (d + 1) = u at *
    generalize sr_h2 x y d = v at *
    generalize sr_h1 x (d + 1) = p at *
    generalize sr_h1 y (d + 1) = q at *
    grind
theorem sr_h2s (x y : Int32) : ∀ d, sr_h2 x y d = sr_h2 y x d
  | 0 => rfl
  | d + 1 => by
    rw [sr_h2b x y d, sr_h2s x y d]
    rfl
theorem sr_h3b (x y z : Int32) : ∀ d, sr_h3 x y z (d + 1) = sr_h2 y z (d + 1) + x * sr_h3 x y z d
  | 0 => by simp only [sr_h1, sr_h2, sr_h3]; grind
  | d + 1 => by
    have ih := sr_h3b x y z d
    have e1 : sr_h3 x y z (d + 2) = sr_h2 x y (d + 2) + z * sr_h3 x y z (d + 1) := rfl
    have e2 : sr_h3 x y z (d + 1) = sr_h2 x y (d + 1) + z * sr_h3 x y z d := rfl
    have e3 : sr_h2 x y (d + 2) = sr_h1 y (d + 2) + x * sr_h2 x y (d + 1) := sr_h2b x y (d + 1)
    have e4 : sr_h2 y z (d + 2) = sr_h1 y (d + 2) + z * sr_h2 y z (d + 1) := rfl
    rw [e1, e3, e4]
    generalize sr_h3 x y z (d + 1) = u at *
    generalize sr_h3 x y z d = v at *
    generalize sr_h2 x y (d + 1) = p at *
    generalize sr_h2 y z (d + 1) = q at *
    generalize sr_h1 y (d + 2) = w at *
    grind
/-- x y z and y z x -/
theorem sr_h3r (x y z : Int32) : ∀ d, sr_h3 x y z d = sr_h3 y z x d
  | 0 => rfl
  | d + 1 => by
    rw [sr_h3b x y z d, sr_h3r x y z d]
    rfl
theorem sr_h3t (x y z : Int32) : ∀ d, sr_h3 x y z d = sr_h3 y x z d
  | 0 => rfl
  | d + 1 => by
    show sr_h2 x y (d + 1) + z * sr_h3 x y z d = sr_h2 y x (d + 1) + z * sr_h3 y x z d
    rw [sr_h2s x y, sr_h3t x y z d]
/-- h_(k - j), nought below 0 -/
def sr_H (g : Nat → Int32) (k j : Nat) : Int32 := if k < j then 0 else g (k - j)
def sr_V (g : Nat → Int32) (s : Nat) : Int32 :=
  (sr_H g (sr_A s) 0 * (sr_H g (sr_B s) 0 * sr_H g (sr_C s) 0 - sr_H g (sr_B s + 1) 0 * sr_H g (sr_C s) 1) - sr_H g (sr_A s + 1) 0 * (sr_H g (sr_B s) 1 * sr_H g (sr_C s) 0 - sr_H g (sr_B s + 1) 0 * sr_H g (sr_C s) 2))
  + sr_H g (sr_A s + 2) 0 * (sr_H g (sr_B s) 1 * sr_H g (sr_C s) 1 - sr_H g (sr_B s) 0 * sr_H g (sr_C s) 2)
theorem sr_Vc {g h : Nat → Int32} {s : Nat} (hs : s < 53) (e : ∀ d, d < 12 → g d = h d) : sr_V g s = sr_V h s := by
  have k : ∀ a j, a < 12 → sr_H g a j = sr_H h a j := by
    intro a j ha
    unfold sr_H
    rw [e (a - j) (by omega)]
  have b := sr_bnd s hs
  unfold sr_V
  rw [k _ _ (show sr_A s < 12 by omega), k _ _ (show sr_B s < 12 by omega), k _ 0 (show sr_C s < 12 by omega), k _ _ (show sr_B s + 1 < 12 by omega), k _ 1 (show sr_C s < 12 by omega), k _ _ (show sr_A s + 1 < 12 by omega), k _ 1 (show sr_B s < 12 by omega), k _ 2 (show sr_C s < 12 by omega), k _ _ (show sr_A s + 2 < 12 by omega)]
/-- the law's own two values -/
def sr_v1b (s : Nat) : Bool := sr_V (sr_h3 1 1 1) s == (((nI (sr_A s) - nI (sr_B s)) + 1) * ((nI (sr_B s) - nI (sr_C s)) + 1)) * ((nI (sr_A s) - nI (sr_C s)) + 2) / 2
def sr_v2b (s : Nat) : Bool := sr_V (sr_h3 1 0 0) s == (if sr_B s = 0 then 1 else 0)
theorem sr_v1c : (List.range 53).all sr_v1b = true := by decide +kernel
theorem sr_v2c : (List.range 53).all sr_v2b = true := by decide +kernel
theorem sr_V1 {s : Nat} (hs : s < 53) : sr_V (sr_h3 1 1 1) s = (((nI (sr_A s) - nI (sr_B s)) + 1) * ((nI (sr_B s) - nI (sr_C s)) + 1)) * ((nI (sr_A s) - nI (sr_C s)) + 2) / 2 := beq_iff_eq.mp (List.all_eq_true.mp sr_v1c s (List.mem_range.mpr hs))
theorem sr_V2 {s : Nat} (hs : s < 53) : sr_V (sr_h3 1 0 0) s = if sr_B s = 0 then 1 else 0 := beq_iff_eq.mp (List.all_eq_true.mp sr_v2c s (List.mem_range.mpr hs))
section
variable {f : Int32} {a1 a2 a3 a4 a5 a6 : Nat → Int32} {E s : Nat} {m : Int32}
theorem sr_fc88 {post : St2 → Prop} {x y z : Int32} (h : ∀ d, d < 12 → a6 d = sr_h2 x y d) (H : ∀ b6, (∀ d, d < 12 → b6 d = sr_h3 x y z d) → post (f, a1, a2, a3, a4, a5, b6)) : ∃ n, wX_findComplete_88 post z f n 1 a1 a2 a3 a4 a5 a6 := by
  refine pk_loop (fun n i b => wX_findComplete_88 post z f n (nI i) a1 a2 a3 a4 a5 b) (fun i b => 1 ≤ i ∧ ∀ d, d < 12 → b d = if d < i then sr_h3 x y z d else sr_h2 x y d) 12 1 a6 (by omega) ⟨by omega, fun d hd => ?_⟩ ?_ ?_
  · rw [h d hd]
    by_cases e : d < 1
    · rw [if_pos e, show d = 0 by omega]
      rfl
    · rw [if_neg e]
  · intro n b hb
    refine pk_le 12 12 (fun _ => H b (fun d hd => ?_)) (fun z => absurd z (by omega))
    rw [hb.2 d hd, if_pos hd]
  · intro n i b hi hb hw
    obtain ⟨h0, hb⟩ := hb
    obtain ⟨k, rfl⟩ : ∃ k, i = k + 1 := ⟨i - 1, by omega⟩
    have hv : vp_in (nI (k + 1)) 12 := pk_in (k + 1) 12 hi
    refine pk_le 12 (k + 1) (fun z => absurd z (by omega)) (fun _ => ⟨hv, pk_in k 12 (by omega) (nI_pred k), hv, nm_e (nm_r (nI_1 _) (hw _ ⟨by omega, ?_⟩))⟩)
    rw [nI_pred, nI_clamp (show k + 1 < 2 ^ 31 by omega), nI_clamp (show k < 2 ^ 31 by omega), hb (k + 1) hi, hb k (by omega), if_neg (show ¬ k + 1 < k + 1 by omega), if_pos (show k < k + 1 by omega)]
    intro d hd
    by_cases e : d = k + 1
    · rw [e, pk_us, if_pos (by omega)]
      rfl
    · rw [pk_un e, hb d hd]
      by_cases c : d < k + 1
      · rw [if_pos c, if_pos (by omega)]
      · rw [if_neg c, if_neg (by omega)]
theorem sr_fc46 {post : St2 → Prop} {x y z : Int32} (h : ∀ d, d < 12 → a6 d = sr_h1 x d) (H : ∀ b6, (∀ d, d < 12 → b6 d = sr_h3 x y z d) → post (f, a1, a2, a3, a4, a5, b6)) : ∃ n, wX_findComplete_46 post y z f n 1 a1 a2 a3 a4 a5 a6 := by
  refine pk_loop (fun n i b => wX_findComplete_46 post y z f n (nI i) a1 a2 a3 a4 a5 b) (fun i b => 1 ≤ i ∧ ∀ d, d < 12 → b d = if d < i then sr_h2 x y d else sr_h1 x d) 12 1 a6 (by omega) ⟨by omega, fun d hd => ?_⟩ ?_ ?_
  · rw [h d hd]
    by_cases e : d < 1
    · rw [if_pos e, show d = 0 by omega]
      rfl
    · rw [if_neg e]
  · intro n b hb
    refine pk_le 12 12 (fun _ => sr_fc88 (x := x) (y := y) (fun d hd => ?_) H) (fun z => absurd z (by omega))
    rw [hb.2 d hd, if_pos hd]
  · intro n i b hi hb hw
    obtain ⟨h0, hb⟩ := hb
    obtain ⟨k, rfl⟩ : ∃ k, i = k + 1 := ⟨i - 1, by omega⟩
    have hv : vp_in (nI (k + 1)) 12 := pk_in (k + 1) 12 hi
    refine pk_le 12 (k + 1) (fun z => absurd z (by omega)) (fun _ => ⟨hv, pk_in k 12 (by omega) (nI_pred k), hv, nm_e (nm_r (nI_1 _) (hw _ ⟨by omega, ?_⟩))⟩)
    rw [nI_pred, nI_clamp (show k + 1 < 2 ^ 31 by omega), nI_clamp (show k < 2 ^ 31 by omega), hb (k + 1) hi, hb k (by omega), if_neg (show ¬ k + 1 < k + 1 by omega), if_pos (show k < k + 1 by omega)]
    intro d hd
    by_cases e : d = k + 1
    · rw [e, pk_us, if_pos (by omega)]
      rfl
    · rw [pk_un e, hb d hd]
      by_cases c : d < k + 1
      · rw [if_pos c, if_pos (by omega)]
      · rw [if_neg c, if_neg (by omega)]
theorem sr_findComplete {post : St2 → Prop} {x y z : Int32} (H : ∀ b6, (∀ d, d < 12 → b6 d = sr_h3 x y z d) → post (f, a1, a2, a3, a4, a5, b6)) : wpX_findComplete post (f, a1, a2, a3, a4, a5, a6) x y z := by
  refine pk_loop (fun n i b => wX_findComplete_3 post x y z f n (nI i) a1 a2 a3 a4 a5 b) (fun i b => ∀ d, d < i → b d = sr_h1 x d) 12 0 a6 (by omega) lt_0 ?_ ?_
  · intro n b hb
    exact pk_le 12 12 (fun _ => sr_fc46 (x := x) hb H) (fun z => absurd z (by omega))
  · intro n i b hi hb hw
    have hv : vp_in (nI i) 12 := pk_in i 12 hi
    refine pk_le 12 i (fun z => absurd z (by omega)) (fun _ => pk_eq i 0 (fun e => ⟨hv, nm_e (nm_r (nI_1 _) (hw _ ?_))⟩) (fun e => ?_))
    · subst e
      intro d hd
      rw [show d = 0 by omega, nI_clamp (show 0 < 2 ^ 31 by omega), pk_us]
      rfl
    · obtain ⟨k, rfl⟩ : ∃ k, i = k + 1 := ⟨i - 1, by omega⟩
      refine ⟨pk_in k 12 (by omega) (nI_pred k), hv, nm_e (nm_r (nI_1 _) (hw _ ?_))⟩
      rw [nI_pred, nI_clamp (show k + 1 < 2 ^ 31 by omega), nI_clamp (show k < 2 ^ 31 by omega), hb k (by omega)]
      intro d hd
      by_cases c : d = k + 1
      · rw [c, pk_us]
        rfl
      · rw [pk_un c]
        exact hb d (by omega)
theorem sr_cO {post : Int32 → Prop} {x : Int32} (k j : Nat) (hk : k < 12) (hj : j < 12) (hp : post (sr_H a6 k j)) (hx : x = nI k - nI j) : wpX_completeOf post (f, a1, a2, a3, a4, a5, a6) x := by
  subst hx
  unfold sr_H at hp
  by_cases c : k < j
  · rw [if_pos c] at hp
    have := pk_sneg (show j < 2 ^ 30 by omega) c
    exact br_f (Int32.not_le.mpr this) hp
  · rw [if_neg c] at hp
    have e := pk_sub (show j ≤ k by omega)
    refine br_t ?_ ⟨pk_in (k - j) 12 (by omega) e, ?_⟩
    · rw [e]
      exact nI_pos' (by omega)
    · rw [e, nI_clamp (by omega)]
      exact hp
theorem sr_s0 (x : Int32) : x = x - nI 0 := by
  rw [nI_0, Int32.sub_zero]
theorem sr_valueOf {post : Int32 → Prop} (hT : sr_T a1 a2 a3) (s : Nat) (hs : s < 53) (hp : post (sr_V a6 s)) : wpX_valueOf post (f, a1, a2, a3, a4, a5, a6) (nI s) := by
  have hv : vp_in (nI s) 60 := pk_in s 60 (by omega)
  obtain ⟨h1, h2, h3⟩ := hT s hs
  have e := nI_clamp (show s < 2 ^ 31 by omega)
  have b := sr_bnd s hs
  have e1 : a1 (nI s).toNatClampNeg = nI (sr_A s) := by rw [e, h1]
  have e2 : a2 (nI s).toNatClampNeg = nI (sr_B s) := by rw [e, h2]
  have e3 : a3 (nI s).toNatClampNeg = nI (sr_C s) := by rw [e, h3]
  refine ⟨hv, nm_r e1 ⟨hv, nm_r e2 ⟨hv, nm_r e3 ?_⟩⟩⟩
  refine sr_cO (sr_A s) 0 (by omega) (by omega) ?_ (sr_s0 _)
  refine sr_cO (sr_A s + 1) 0 (by omega) (by omega) ?_ (by rw [← sr_s0]; exact nI_1 _)
  refine sr_cO (sr_A s + 2) 0 (by omega) (by omega) ?_ (by rw [← sr_s0]; exact nI_add _ 2)
  refine sr_cO (sr_B s) 1 (by omega) (by omega) ?_ rfl
  refine sr_cO (sr_B s) 0 (by omega) (by omega) ?_ (sr_s0 _)
  refine sr_cO (sr_B s + 1) 0 (by omega) (by omega) ?_ (by rw [← sr_s0]; exact nI_1 _)
  refine sr_cO (sr_C s) 2 (by omega) (by omega) ?_ rfl
  refine sr_cO (sr_C s) 1 (by omega) (by omega) ?_ rfl
  refine sr_cO (sr_C s) 0 (by omega) (by omega) ?_ (sr_s0 _)
  exact hp
theorem sr_value {post : Int32 → St2 → Prop} {w x y z : Int32} (hT : sr_T a1 a2 a3) (hE : E < 2) (hs : s < 53) (h1 : sr_one a4 E s m) (H : ∀ b6, post (m * sr_V (sr_h3 x y z) s) (nI 53, a1, a2, a3, a4, a5, b6)) (hw : w = nI E := by rfl) : wpX_value post (nI 53, a1, a2, a3, a4, a5, a6) w x y z := by
  subst hw
  unfold wpX_value
  refine sr_bad0 E hE (br_t rfl (sr_findComplete (fun b6 hb6 => ?_)))
  refine pk_loop (fun n i v => wX_value_24 post (nI E) (nI 53) a1 a2 a3 a4 a5 b6 n v (nI i)) (fun i v => v = if s < i then m * sr_V b6 s else 0) 53 0 0 (by omega) (by rw [if_neg (by omega)]) ?_ ?_
  · intro n v hv
    refine pk_le 53 53 (fun _ => ?_) (fun z => absurd z (by omega))
    rw [hv, if_pos hs, sr_Vc hs hb6]
    exact H b6
  · intro n i v hi hv hw
    refine pk_le 53 i (fun z => absurd z (by omega)) (fun _ => sr_valueOf hT i hi (sr_get E i hE (by omega) (nm_e (nm_r (nI_1 i) (hw _ ?_)))))
    rw [h1 i hi, hv]
    by_cases e : i = s
    · rw [if_pos e, if_neg (show ¬ s < i by omega), if_pos (show s < i + 1 by omega), Int32.zero_add, e]
    · rw [if_neg e, Int32.zero_mul, Int32.add_zero]
      by_cases c : s < i
      · rw [if_pos c, if_pos (by omega)]
      · rw [if_neg c, if_neg (by omega)]
theorem sr_value1 {post : Int32 → St2 → Prop} {w x y z : Int32} (h : ¬ (w = 0 ∨ w = 1)) (H : post (-1) (f, a1, a2, a3, a4, a5, a6)) : wpX_value post (f, a1, a2, a3, a4, a5, a6) w x y z := by
  unfold wpX_value
  exact sr_bad1 h (br_f (by decide) H)
end
end
section
/-! Numbers before single products of powers. -/
def sr_pg (b c i g t : Int32) : Bool := !(decide (g < c)) && !(decide (b < g)) && !(decide (t < i)) && !(decide (i < g))
def sr_pa (s i j : Nat) : Nat → Int32
  | 0 => 0
  | t + 1 => if sr_pg (nI (sr_B s)) (nI (sr_C s)) (nI i) (nI i + nI j - nI (sr_B s + t)) (nI (sr_B s + t)) = true then sr_pa s i j t + 1 else sr_pa s i j t
def sr_pt (s i j : Nat) : Int32 := sr_pa s i j (sr_A s + 1 - sr_B s)
def sr_m1b (s : Nat) : Bool := (sr_pt s (sr_A s) (sr_B s) == 1) && (sr_pt s (sr_C s) (sr_A s) == 1)
def sr_m2b (k : Nat) : Bool :=
  let s := k / 64
  let x := k / 16 % 4
  let y := k / 4 % 4
  let z := k % 4
  !(sr_sz s == x + y + z) || ((sr_pt s x y == sr_pt s z x) && (sr_pt s x y == sr_pt s y x))
theorem sr_m1c : (List.range 53).all sr_m1b = true := by decide +kernel
theorem sr_m2c : (List.range 3392).all sr_m2b = true := by decide +kernel
theorem sr_m1 {s : Nat} (hs : s < 53) : sr_pt s (sr_A s) (sr_B s) = 1 ∧ sr_pt s (sr_C s) (sr_A s) = 1 := by
  have h := List.all_eq_true.mp sr_m1c s (List.mem_range.mpr hs)
  unfold sr_m1b at h
  rw [Bool.and_eq_true] at h
  exact ⟨beq_iff_eq.mp h.1, beq_iff_eq.mp h.2⟩
theorem sr_m2 {s x y z : Nat} (hs : s < 53) (hx : x < 4) (hy : y < 4) (hz : z < 4) (hq : sr_sz s = x + y + z) : sr_pt s x y = sr_pt s z x ∧ sr_pt s x y = sr_pt s y x := by
  have h := List.all_eq_true.mp sr_m2c (64 * s + 16 * x + 4 * y + z) (List.mem_range.mpr (by omega))
  unfold sr_m2b at h
  dsimp only at h
  rw [show (64 * s + 16 * x + 4 * y + z) / 64 = s by omega, show (64 * s + 16 * x + 4 * y + z) / 16 = 4 * s + x by omega, show (4 * s + x) % 4 = x by omega, show (64 * s + 16 * x + 4 * y + z) / 4 = 16 * s + 4 * x + y by omega, show (16 * s + 4 * x + y) % 4 = y by omega, show (64 * s + 16 * x + 4 * y + z) % 4 = z by omega, hq, beq_self_eq_true, Bool.not_true, Bool.false_or, Bool.and_eq_true] at h
  exact ⟨beq_iff_eq.mp h.1, beq_iff_eq.mp h.2⟩
section
variable {f : Int32} {a1 a2 a3 a4 a5 a6 : Nat → Int32} {E s : Nat} {m : Int32}
theorem sr_p57 {post : Int32 → Prop} {J : Int32 → Int32 → Prop} {x1 x2 x3 x4 x5 x6 z0 y : Int32} (hy : x5 + 1 = y) (h0 : (z0 = 0 ∨ x5 < x2 ∨ x2 < x6) → J x4 y) (h1 : ¬ z0 = 0 → ¬ x5 < x2 → ¬ x2 < x6 → J (x4 + 1) y) : wX_patterns_57 post J x1 x2 x3 x4 x5 x6 z0 f a1 a2 a3 a4 a5 a6 :=
  br_c (fun q => nm_r hy (h0 (Or.inl q))) (fun q1 => br_c (fun q => nm_r hy (h0 (Or.inr (Or.inl q)))) (fun q2 => br_c (fun q => nm_r hy (h0 (Or.inr (Or.inr q)))) (fun q3 => nm_e (nm_r hy (h1 q1 q2 q3)))))
theorem sr_patterns {post : Int32 → Prop} {x y z : Int32} (hT : sr_T a1 a2 a3) (s i j : Nat) (hs : s < 53) (H : post (sr_pt s i j)) (hx : x = nI s := by rfl) (hy : y = nI i := by rfl) (hz : z = nI j := by rfl) : wpX_patterns post (f, a1, a2, a3, a4, a5, a6) x y z := by
  subst hx hy hz
  have hv : vp_in (nI s) 60 := pk_in s 60 (by omega)
  obtain ⟨h1, h2, h3⟩ := hT s hs
  have e := nI_clamp (show s < 2 ^ 31 by omega)
  have b := sr_bnd s hs
  have e2 : a2 (nI s).toNatClampNeg = nI (sr_B s) := by rw [e, h2]
  refine ⟨hv, nm_r e2 ?_⟩
  refine pk_loop (fun n t x => wX_patterns_11 post (nI s) (nI i) (nI j) f a1 a2 a3 a4 a5 a6 n x (nI (sr_B s + t))) (fun t x => x = sr_pa s i j t) (sr_A s + 1 - sr_B s) 0 0 (by omega) rfl ?_ ?_
  · intro n x hx
    refine ⟨hv, ?_⟩
    rw [e, h1]
    exact pk_lt (sr_A s) (sr_B s + (sr_A s + 1 - sr_B s)) (fun _ => by rw [hx]; exact H) (fun z => absurd z (by omega))
  · intro n t x ht hx hw
    have g0 : (sr_pg (nI (sr_B s)) (nI (sr_C s)) (nI i) (nI i + nI j - nI (sr_B s + t)) (nI (sr_B s + t)) = false) → wX_patterns_11 post (nI s) (nI i) (nI j) f a1 a2 a3 a4 a5 a6 n x (nI (sr_B s + (t + 1))) := by
      intro q
      refine hw x ?_
      show x = if sr_pg (nI (sr_B s)) (nI (sr_C s)) (nI i) (nI i + nI j - nI (sr_B s + t)) (nI (sr_B s + t)) = true then sr_pa s i j t + 1 else sr_pa s i j t
      rw [if_neg (by rw [q]; decide), hx]
    have g1 : (sr_pg (nI (sr_B s)) (nI (sr_C s)) (nI i) (nI i + nI j - nI (sr_B s + t)) (nI (sr_B s + t)) = true) → wX_patterns_11 post (nI s) (nI i) (nI j) f a1 a2 a3 a4 a5 a6 n (x + 1) (nI (sr_B s + (t + 1))) := by
      intro q
      refine hw (x + 1) ?_
      show x + 1 = if sr_pg (nI (sr_B s)) (nI (sr_C s)) (nI i) (nI i + nI j - nI (sr_B s + t)) (nI (sr_B s + t)) = true then sr_pa s i j t + 1 else sr_pa s i j t
      rw [if_pos q, hx]
    have hy : nI (sr_B s + t) + 1 = nI (sr_B s + (t + 1)) := nI_1 _
    refine ⟨hv, ?_⟩
    rw [e, h1, h2, h3]
    refine pk_lt (sr_A s) (sr_B s + t) (fun z => absurd z (by omega)) (fun _ => nm_e ⟨hv, ?_⟩)
    generalize nI i + nI j - nI (sr_B s + t) = g at g0 g1 ⊢
    unfold sr_pg at g0 g1
    have no : (g < nI (sr_C s) ∨ nI (sr_B s) < g) → wX_patterns_56 post (wX_patterns_11 post (nI s) (nI i) (nI j) f a1 a2 a3 a4 a5 a6 n) (nI s) (nI i) (nI j) x (nI (sr_B s + t)) g f a1 a2 a3 a4 a5 a6 := by
      intro q
      unfold wX_patterns_56
      refine sr_p57 hy (fun _ => g0 ?_) (fun z => absurd rfl z)
      rcases q with q | q
      · simp [q]
      · simp [q]
    refine br_c (fun q => no (Or.inl q)) (fun q1 => ⟨hv, br_c (fun q => no (Or.inr q)) (fun q2 => ?_)⟩)
    refine sr_p57 hy (fun w => g0 ?_) (fun _ w1 w2 => g1 ?_)
    · rcases w with w | w | w
      · exact absurd w (by decide)
      · simp [w]
      · simp [w]
    · simp [q1, q2, w1, w2]
theorem sr_mono {post : Int32 → Prop} {w x y z : Int32} (hT : sr_T a1 a2 a3) (hE : E < 2) (hs : s < 53) (h1 : sr_one a4 E s m) (i j k : Nat) (hi : i ≤ 9) (hj : j ≤ 9) (hk : k ≤ 9) (H : post (if sr_sz s = i + j + k then m * sr_pt s i j else 0)) (hw : w = nI E := by rfl) (hx : x = nI i := by rfl) (hy : y = nI j := by rfl) (hz : z = nI k := by rfl) : wpX_monomial post (nI 53, a1, a2, a3, a4, a5, a6) w x y z := by
  subst hw hx hy hz
  unfold wpX_monomial
  refine sr_bad0 E hE (br_t rfl ?_)
  refine pk_lt i 0 (fun z => absurd z (by omega)) (fun _ => pk_lt j 0 (fun z => absurd z (by omega)) (fun _ => pk_lt k 0 (fun z => absurd z (by omega)) (fun _ => pk_lt 9 i (fun z => absurd z (by omega)) (fun _ => pk_lt 9 j (fun z => absurd z (by omega)) (fun _ => pk_le k 9 (fun _ => ?_) (fun z => absurd z (by omega)))))))
  refine pk_loop (fun n t v => wX_monomial_50 post (nI E) (nI i) (nI j) (nI k) (nI 53) a1 a2 a3 a4 a5 a6 n v (nI t)) (fun t v => v = if s < t ∧ sr_sz s = i + j + k then m * sr_pt s i j else 0) 53 0 0 (by omega) (by rw [if_neg (by omega)]) ?_ ?_
  · intro n v hv
    refine pk_le 53 53 (fun _ => ?_) (fun z => absurd z (by omega))
    rw [hv]
    by_cases c : sr_sz s = i + j + k
    · rw [if_pos c] at H
      rw [if_pos ⟨hs, c⟩]
      exact H
    · rw [if_neg c] at H
      rw [if_neg (fun t => c t.2)]
      exact H
  · intro n t v ht hv hw
    have bt := sr_bnd t ht
    refine pk_le 53 t (fun z => absurd z (by omega)) (fun _ => sr_sizeOf hT t ht ?_)
    refine pk_eq (sr_sz t) (i + j + k) (fun c => ?_) (fun c => nm_r (nI_1 t) (hw v ?_)) rfl (by rw [nI_add, nI_add]) (by unfold sr_sz; omega)
    · refine sr_patterns hT t i j ht (sr_get E t hE (by omega) (nm_e (nm_r (nI_1 t) (hw _ ?_))))
      rw [h1 t ht, hv]
      by_cases e : t = s
      · subst e
        rw [if_pos rfl, if_neg (by omega), if_pos ⟨by omega, c⟩, Int32.zero_add]
      · rw [if_neg e, Int32.zero_mul, Int32.add_zero]
        by_cases d : s < t ∧ sr_sz s = i + j + k
        · rw [if_pos d, if_pos ⟨by omega, d.2⟩]
        · rw [if_neg d, if_neg (fun q => d ⟨by omega, q.2⟩)]
    · rw [hv]
      by_cases d : s < t ∧ sr_sz s = i + j + k
      · rw [if_pos d, if_pos ⟨by omega, d.2⟩]
      · rw [if_neg d, if_neg (fun q => d ⟨?_, q.2⟩)]
        rcases Nat.lt_or_ge s t with g | g
        · exact g
        · have : t = s := by omega
          exact absurd (by rw [this]; exact q.2) c
/-- an exponent out of range -/
theorem sr_mono0 {post : Int32 → Prop} {w x y z : Int32} (hE : E < 2) (h : x < 0 ∨ 9 < x) (H : post 0) (hw : w = nI E := by rfl) : wpX_monomial post (f, a1, a2, a3, a4, a5, a6) w x y z := by
  unfold wpX_monomial
  refine sr_bad0 E hE (br_t rfl ?_) hw
  refine br_c (fun _ => H) (fun h0 => br_c (fun _ => H) (fun _ => br_c (fun _ => H) (fun _ => br_t (h.resolve_left h0) H)))
theorem sr_mono1 {post : Int32 → Prop} {w x y z : Int32} (h : ¬ (w = 0 ∨ w = 1)) (H : post (-1)) : wpX_monomial post (f, a1, a2, a3, a4, a5, a6) w x y z := by
  unfold wpX_monomial
  exact sr_bad1 h (br_f (by decide) H)
end
end
section
/-! The law where the element or the code is none: everything is refused, or finds nothing. -/
def sr_ge (x0 x10 : Int32) : Prop := (x10 = 0 ∧ ¬ (x0 = 0 ∨ x0 = 1)) ∨ (x10 = 1 ∧ ∃ E, E < 2 ∧ x0 = nI E)
def sr_Z (a4 : Nat → Int32) : Prop := sr_one a4 0 0 0 ∧ sr_one a4 1 0 0
def sr_cd (x1 x11 : Int32) : Prop := (x11 = 0 ∧ sr_no x1) ∨ (x11 = 1 ∧ ∃ s, s < 53 ∧ x1 = nI (sr_c s))
def sr_ng (x0 x1 : Int32) : Prop := (¬ (x0 = 0 ∨ x0 = 1)) ∨ sr_no x1
theorem sr_Zi {a4 : Nat → Int32} {E : Nat} (h : sr_Z a4) (hE : E < 2) : sr_one a4 E 0 0 := by
  have : E = 0 ∨ E = 1 := by omega
  rcases this with rfl | rfl
  · exact h.1
  · exact h.2
theorem sr_nge {E : Nat} (hE : E < 2) : ¬ ¬ (nI E = 0 ∨ nI E = 1) := by
  have : E = 0 ∨ E = 1 := by omega
  rcases this with rfl | rfl
  · exact fun h => h (Or.inl rfl)
  · exact fun h => h (Or.inr rfl)
theorem sr_no10 : sr_no 10 := by
  have h : ∀ s, s < 53 → ¬ (10 : Int32) = nI (sr_c s) := by decide +kernel
  exact h
theorem sr_is1 : ∀ s, s < 53 → (nI (sr_c s) = 1 ↔ s = 1) := by decide +kernel
theorem sr_c0 : (0 : Int32) = nI (sr_c 0) := by decide +kernel
theorem sr_c1 : (1 : Int32) = nI (sr_c 1) := by decide +kernel
section
variable {post : Int32 → St0 → Prop} {mc ms kc ks : Nat} {x0 x1 x2 x3 x4 x5 x7 x8 x9 x10 x11 x13 x19 z0 z1 : Int32} {f : Int32} {a1 a2 a3 a4 a5 a6 : Nat → Int32}
theorem sr_valueZ {post : Int32 → St2 → Prop} {x y z : Int32} {E : Nat} (hT : sr_T a1 a2 a3) (hE : E < 2) (hZ : sr_one a4 E 0 0) (H : ∀ b6, post 0 (nI 53, a1, a2, a3, a4, a5, b6)) : wpX_value post (nI 53, a1, a2, a3, a4, a5, a6) (nI E) x y z := by
  refine sr_value hT hE (by omega) hZ (fun b6 => ?_)
  rw [Int32.zero_mul]
  exact H b6
theorem sr_monoZ {post : Int32 → Prop} {x y z : Int32} {E : Nat} (hT : sr_T a1 a2 a3) (hE : E < 2) (hZ : sr_one a4 E 0 0) (H : post 0) : wpX_monomial post (nI 53, a1, a2, a3, a4, a5, a6) (nI E) (x &&& 3) (y &&& 3) (z &&& 3) := by
  obtain ⟨i, hi, ei⟩ := pk_andE x (m := 3) 2 (by decide)
  obtain ⟨j, hj, ej⟩ := pk_andE y (m := 3) 2 (by decide)
  obtain ⟨k, hk, ek⟩ := pk_andE z (m := 3) 2 (by decide)
  refine sr_mono hT hE (by omega) hZ i j k (by omega) (by omega) (by omega) ?_ rfl ei ej ek
  rw [Int32.zero_mul, ite_self]
  exact H
theorem sr_n946 (hp : post 1 ()) : wL_lawOf_946 post mc ms x0 0 x19 kc ks f a1 a2 a3 a4 a5 a6 := br_t rfl hp
theorem sr_n860 (hp : post 1 ()) : wL_lawOf_860 post mc ms x0 x4 x7 x8 x9 0 x13 kc ks f a1 a2 a3 a4 a5 a6 := by
  unfold wL_lawOf_860
  refine sr_timesPower1 (Or.inr (Or.inl (by decide))) (br_t rfl ?_)
  refine sr_timesPower1 (Or.inr (Or.inr (by decide))) (br_t rfl ?_)
  refine sr_timesPower1 (Or.inl sr_two) (br_t rfl (nm_e (nm_e (br_t rfl (sr_n946 hp)))))
theorem sr_n835 (hz : z1 = z0) (hp : post 1 ()) : wL_lawOf_835 post mc ms x0 x1 x4 x7 x8 x9 0 x13 z0 z1 kc ks f a1 a2 a3 a4 a5 a6 := br_t hz (br_t rfl (sr_n860 hp))
theorem sr_n817 (hG : sr_ge x0 x10) (hZ : sr_Z a4) (hp : post 1 ()) : wL_lawOf_817 post mc ms x0 x1 x4 x7 x8 x9 x10 0 x13 kc ks (nI 53) a1 a2 a3 a4 a5 a6 := by
  unfold wL_lawOf_817
  rcases hG with ⟨rfl, h⟩ | ⟨rfl, E, hE, rfl⟩
  · exact sr_scale1 h (br_t rfl (sr_n835 rfl hp))
  · exact sr_scale hE (by omega) (sr_Zi hZ hE) (fun b4 _ => br_f (by decide) (sr_n835 rfl hp))
theorem sr_n797 (hG : sr_ge x0 x10) (hZ : sr_Z a4) (hz : z1 = z0) (hp : post 1 ()) : wL_lawOf_797 post mc ms x0 x1 x4 x7 x8 x9 x10 0 x13 z0 z1 kc ks (nI 53) a1 a2 a3 a4 a5 a6 := br_t hz (br_t rfl (sr_n817 hG hZ hp))
theorem sr_n766 (hT : sr_T a1 a2 a3) (hG : sr_ge x0 x10) (hN : sr_ng x0 x1) (hZ : sr_Z a4) (hp : post 1 ()) : wL_lawOf_766 post mc ms x0 x1 x4 x7 x8 x9 x10 0 x13 kc ks (nI 53) a1 a2 a3 a4 a5 a6 := by
  unfold wL_lawOf_766
  exact sr_part10 (br_t rfl (sr_timesShape1 hT hN (br_t rfl (sr_n797 hG hZ rfl hp))))
theorem sr_n727 (hT : sr_T a1 a2 a3) (hG : sr_ge x0 x10) (hN : sr_ng x0 x1) (hZ : sr_Z a4) (hz : z1 = z0) (hp : post 1 ()) : wL_lawOf_727 post mc ms x0 x1 x4 x7 x8 x9 x10 0 x13 z0 z1 kc ks (nI 53) a1 a2 a3 a4 a5 a6 := br_t hz (br_t rfl (sr_n766 hT hG hN hZ hp))
theorem sr_n692 (hT : sr_T a1 a2 a3) (hG : sr_ge x0 x10) (hN : sr_ng x0 x1) (hZ : sr_Z a4) (hz : z1 = z0) (hp : post 1 ()) : wL_lawOf_692 post mc ms x0 x1 x4 x7 x8 x9 x10 0 x13 z0 z1 kc ks (nI 53) a1 a2 a3 a4 a5 a6 :=
  br_t hz (sr_number0 hT (Or.inr (Or.inr sr_no10)) (br_t rfl (sr_skew1 hT hN (br_t rfl (sr_n727 hT hG hN hZ rfl hp)))))
theorem sr_n662 (hT : sr_T a1 a2 a3) (hG : sr_ge x0 x10) (hC : sr_cd x1 x11) (hN : sr_ng x0 x1) (hZ : sr_Z a4) (hz : z1 = z0) (hp : post 1 ()) : wL_lawOf_662 post mc ms x0 x1 x4 x7 x8 x9 x10 x11 0 x13 z0 z1 kc ks (nI 53) a1 a2 a3 a4 a5 a6 := by
  refine br_t hz ?_
  rcases hC with ⟨rfl, h⟩ | ⟨rfl, s, hs, e⟩
  · exact sr_number0 hT (Or.inr (Or.inl h)) (br_t rfl (sr_n692 hT hG hN hZ rfl hp))
  · refine sr_number hT 0 s 1 (by omega) hs (by omega) (br_f (by decide) ?_) sr_c0 e sr_c1
    rw [sr_CF3 hs]
    refine br_c (fun g => sr_n692 hT hG hN hZ ?_ hp) (fun g => sr_n692 hT hG hN hZ ?_ hp)
    · rw [if_pos ((sr_is1 s hs).mp (by rw [← e]; exact g))]
    · rw [if_neg (fun t => g (by rw [e]; exact (sr_is1 s hs).mpr t))]
theorem sr_n639 (hT : sr_T a1 a2 a3) (hG : sr_ge x0 x10) (hC : sr_cd x1 x11) (hN : sr_ng x0 x1) (hZ : sr_Z a4) (hz : z1 = z0) (hp : post 1 ()) : wL_lawOf_639 post mc ms x0 x1 x4 x7 x8 x9 x10 x11 0 x13 z0 z1 kc ks (nI 53) a1 a2 a3 a4 a5 a6 := by
  refine br_t hz ?_
  have hC' := hC
  rcases hC' with ⟨rfl, h⟩ | ⟨rfl, s, hs, e⟩
  · exact sr_number0 hT (Or.inl h) (br_t rfl (sr_n662 hT hG hC hN hZ rfl hp))
  · refine sr_number hT s 0 s hs (by omega) hs (br_f (by decide) (sr_n662 hT hG hC hN hZ ?_ hp)) e sr_c0 e
    rw [sr_CF1 hs (by omega), if_pos rfl]
theorem sr_n489 (hT : sr_T a1 a2 a3) (hG : sr_ge x0 x10) (hC : sr_cd x1 x11) (hN : sr_ng x0 x1) (hZ : sr_Z a4) (hp : post 1 ()) : wL_lawOf_489 post mc ms x0 x1 x3 x4 x5 x7 x8 x9 x10 x11 0 0 kc ks (nI 53) a1 a2 a3 a4 a5 a6 := by
  unfold wL_lawOf_489
  refine nm_e (nm_e (nm_e ?_))
  have hG' := hG
  rcases hG' with ⟨rfl, h⟩ | ⟨rfl, E, hE, rfl⟩
  · refine sr_mono1 h (sr_mono1 h (br_t rfl (sr_mono1 h (sr_mono1 h (br_t rfl ?_)))))
    refine sr_value1 h (sr_value1 h (br_t rfl (sr_value1 h (sr_value1 h (br_t rfl ?_)))))
    exact sr_coefficient1 hT (Or.inl h) (br_t rfl (sr_n639 hT hG hC hN hZ rfl hp))
  · have hZE := sr_Zi hZ hE
    refine sr_monoZ hT hE hZE (sr_monoZ hT hE hZE (br_t rfl (sr_monoZ hT hE hZE (sr_monoZ hT hE hZE (br_t rfl ?_)))))
    refine sr_valueZ hT hE hZE (fun b6 => sr_valueZ hT hE hZE (fun b6 => br_t rfl (sr_valueZ hT hE hZE (fun b6 => sr_valueZ hT hE hZE (fun b6 => br_t rfl ?_)))))
    refine sr_coefficient hT hE 1 (by omega) (br_f (by decide) (br_f (fun t => ?_) (sr_n639 hT hG hC hN hZ ?_ hp))) rfl sr_c1
    · rcases hN with hN | hN
      · exact sr_nge hE hN
      · exact hN 1 (by omega) (by rw [t]; exact sr_c1)
    · rw [hZE 1 (by omega), ite_self]
theorem sr_n412 (hT : sr_T a1 a2 a3) (hG : sr_ge x0 x10) (hC : sr_cd x1 x11) (hN : sr_ng x0 x1) (hZ : sr_Z a4) (hz : z1 = z0) (hp : post 1 ()) : wL_lawOf_412 post mc ms x0 x1 x3 x4 x5 x7 x8 x9 x10 x11 0 0 z0 z1 kc ks (nI 53) a1 a2 a3 a4 a5 a6 := br_t hz (br_t rfl (sr_n489 hT hG hC hN hZ hp))
theorem sr_n384 (hT : sr_T a1 a2 a3) (hG : sr_ge x0 x10) (hC : sr_cd x1 x11) (hN : sr_ng x0 x1) (hZ : sr_Z a4) (hz : z1 = z0) (hp : post 1 ()) : wL_lawOf_384 post mc ms x0 x1 x3 x4 x5 x7 x8 x9 x10 x11 0 0 z0 z1 kc ks (nI 53) a1 a2 a3 a4 a5 a6 := by
  refine br_t hz ?_
  have hG' := hG
  rcases hG' with ⟨rfl, h⟩ | ⟨rfl, E, hE, rfl⟩
  · exact sr_shapes1 h (br_t rfl (sr_n412 hT hG hC hN hZ rfl hp))
  · exact sr_shapes hE (sr_Zi hZ hE) (by omega) (br_f (by decide) (br_t rfl (sr_n412 hT hG hC hN hZ (if_pos rfl) hp)))
theorem sr_n361 (hT : sr_T a1 a2 a3) (hG : sr_ge x0 x10) (hC : sr_cd x1 x11) (hN : sr_ng x0 x1) (hZ : sr_Z a4) (hz : z1 = z0) (hp : post 1 ()) : wL_lawOf_361 post mc ms x0 x1 x3 x4 x5 x7 x8 x9 x10 x11 0 0 0 z0 z1 kc ks (nI 53) a1 a2 a3 a4 a5 a6 := by
  refine br_t hz ?_
  have hG' := hG
  rcases hG' with ⟨rfl, h⟩ | ⟨rfl, E, hE, rfl⟩
  · exact sr_value1 h (br_t rfl (sr_n384 hT hG hC hN hZ rfl hp))
  · exact sr_valueZ hT hE (sr_Zi hZ hE) (fun b6 => br_f (by decide) (sr_n384 hT hG hC hN hZ rfl hp))
theorem sr_n336 (hT : sr_T a1 a2 a3) (hG : sr_ge x0 x10) (hC : sr_cd x1 x11) (hN : sr_ng x0 x1) (hZ : sr_Z a4) (hp : post 1 ()) : wL_lawOf_336 post mc ms x0 x1 x3 x4 x5 x7 x8 x9 x10 x11 0 0 0 0 kc ks (nI 53) a1 a2 a3 a4 a5 a6 := by
  unfold wL_lawOf_336
  have hG' := hG
  rcases hG' with ⟨rfl, h⟩ | ⟨rfl, E, hE, rfl⟩
  · exact sr_value1 h (br_t rfl (sr_n361 hT hG hC hN hZ rfl hp))
  · exact sr_valueZ hT hE (sr_Zi hZ hE) (fun b6 => br_f (by decide) (sr_n361 hT hG hC hN hZ (Int32.zero_mul).symm hp))
theorem sr_n282 (hT : sr_T a1 a2 a3) (hG : sr_ge x0 x10) (hC : sr_cd x1 x11) (hN : sr_ng x0 x1) (hZ : sr_Z a4) (hp : post 1 ()) : wL_lawOf_282 post mc ms x0 x1 x3 x4 x5 x7 x8 x9 x10 x11 0 0 kc ks (nI 53) a1 a2 a3 a4 a5 a6 := by
  refine br_t rfl (br_t rfl ?_)
  unfold wL_lawOf_335
  exact sr_n336 hT hG hC hN hZ hp
theorem sr_n267 (hT : sr_T a1 a2 a3) (hG : sr_ge x0 x10) (hC : sr_cd x1 x11) (hN : sr_ng x0 x1) (hZ : sr_Z a4) (hz : z1 = z0) (hp : post 1 ()) : wL_lawOf_267 post mc ms x0 x1 x2 x3 x4 x5 x7 x8 x9 x10 x11 0 z0 z1 kc ks (nI 53) a1 a2 a3 a4 a5 a6 := br_t hz (br_t rfl (sr_n282 hT hG hC hN hZ hp))
theorem sr_n227 (hT : sr_T a1 a2 a3) (hG : sr_ge x0 x10) (hC : sr_cd x1 x11) (hN : sr_ng x0 x1) (hZ : sr_Z a4) (hz : z1 = z0) (hp : post 1 ()) : wL_lawOf_227 post mc ms x0 x1 x2 x3 x4 x5 x7 x8 x9 x10 x11 0 z0 z1 kc ks (nI 53) a1 a2 a3 a4 a5 a6 := by
  refine br_t hz ?_
  have hG' := hG
  rcases hG' with ⟨rfl, h⟩ | ⟨rfl, E, hE, rfl⟩
  · exact sr_degree1 h (br_t rfl (sr_n267 hT hG hC hN hZ rfl hp))
  · refine sr_degree hT hE (sr_Zi hZ hE) (by omega) (br_f (by decide) (br_t rfl ?_))
    unfold wL_lawOf_265
    exact sr_n267 hT hG hC hN hZ (if_pos rfl) hp
theorem sr_n207 (hT : sr_T a1 a2 a3) (hG : sr_ge x0 x10) (hC : sr_cd x1 x11) (hN : sr_ng x0 x1) (hZ : sr_Z a4) (hz : z1 = z0) (hp : post 1 ()) : wL_lawOf_207 post mc ms x0 x1 x2 x3 x4 x5 x7 x8 x9 x10 x11 0 z0 z1 kc ks (nI 53) a1 a2 a3 a4 a5 a6 :=
  br_t hz (sr_coefficient1 hT hN (br_t rfl (sr_n227 hT hG hC hN hZ rfl hp)))
end
end
section
/-! The law where element and code are good: element E is m times shape s. -/
section
variable {post : Int32 → St0 → Prop} {mc ms kc ks : Nat} {x1 x2 x3 x4 x5 x7 x8 x9 m z0 z1 : Int32} {f : Int32} {a1 a2 a3 a4 a5 a6 : Nat → Int32} {E s : Nat}
theorem sr_g967 {k : Nat} {y : Int32} (hT : sr_T a1 a2 a3) (hE : E < 2) (hs : s < 53) (h1 : sr_one a4 E s m) (hk : k ≤ 9) (hk2 : k ≠ sr_sz s) (hp : post 1 ()) (hy : y = nI k := by rfl) : wL_lawOf_967 post mc ms (nI E) y (nI E) kc ks (nI 53) a1 a2 a3 a4 a5 a6 := by
  unfold wL_lawOf_967
  refine sr_part hT hE hs h1 k hk hk2 (fun b4 hb => br_t rfl ?_) rfl hy
  refine sr_degree hT hE hb (by omega) (br_t (if_pos rfl) ?_)
  refine sr_timesPower0 hT hE hb 9 (by omega) (by omega) (fun c4 c5 hc => br_t rfl ?_)
  exact sr_shapes hE hc (by omega) (br_t (if_pos rfl) hp)
theorem sr_g946 (hT : sr_T a1 a2 a3) (hE : E < 2) (hs : s < 53) (h1 : sr_one a4 E s m) (hp : post 1 ()) : wL_lawOf_946 post mc ms (nI E) 1 (nI (sr_sz s)) kc ks (nI 53) a1 a2 a3 a4 a5 a6 := by
  have b := sr_bnd s hs
  have bz : sr_sz s ≤ 9 := by unfold sr_sz; omega
  refine br_f (by decide) (pk_eq (sr_sz s) 0 (fun e => ?_) (fun e => ?_))
  · exact sr_g967 (k := 1) hT hE hs h1 (by omega) (by omega) hp
  · refine sr_g967 (k := sr_sz s - 1) hT hE hs h1 (by omega) (by omega) hp ?_
    exact pk_sub (b := 1) (by omega)
theorem sr_szI {s : Nat} : (nI (sr_A s) + nI (sr_B s)) + nI (sr_C s) = nI (sr_sz s) := by
  rw [nI_add, nI_add]
  rfl
theorem sr_g860 (hT : sr_T a1 a2 a3) (hE : E < 2) (hs : s < 53) (h1 : sr_one a4 E s (m * x4)) (hp : post 1 ()) : wL_lawOf_860 post mc ms (nI E) x4 (nI (sr_A s)) (nI (sr_B s)) (nI (sr_C s)) 1 m kc ks (nI 53) a1 a2 a3 a4 a5 a6 := by
  have b := sr_bnd s hs
  have bz : sr_sz s ≤ 9 := by unfold sr_sz; omega
  unfold wL_lawOf_860
  refine sr_timesPower1 (Or.inr (Or.inl (by decide))) (br_t rfl ?_)
  refine sr_timesPower1 (Or.inr (Or.inr (by decide))) (br_t rfl ?_)
  refine sr_timesPower1 (Or.inl sr_two) (br_t rfl (nm_r sr_szI (nm_r (e' := nI (10 - sr_sz s)) (pk_sub (a := 10) (by omega)) (br_f (by decide) ?_))))
  refine pk_le (sr_sz s) 0 (fun _ => sr_g946 hT hE hs h1 hp) (fun e => br_c (fun _ => sr_g946 hT hE hs h1 hp) (fun g => ?_))
  exact sr_timesPower2 hT hE hs h1 g (10 - sr_sz s) (by omega) (by omega) (by omega) (br_t rfl (sr_g946 hT hE hs h1 hp))
theorem sr_g835 (hT : sr_T a1 a2 a3) (hE : E < 2) (hs : s < 53) (h1 : sr_one a4 E s (m * x4)) (hz : z1 = z0) (hp : post 1 ()) : wL_lawOf_835 post mc ms (nI E) (nI (sr_c s)) x4 (nI (sr_A s)) (nI (sr_B s)) (nI (sr_C s)) 1 m z0 z1 kc ks (nI 53) a1 a2 a3 a4 a5 a6 :=
  br_t hz (br_f (by decide) (sr_coefficient hT hE s hs (br_t (by rw [h1 s hs, if_pos rfl]) (sr_g860 hT hE hs h1 hp))))
theorem sr_g817 (hT : sr_T a1 a2 a3) (hE : E < 2) (hs : s < 53) (h1 : sr_one a4 E s m) (hp : post 1 ()) : wL_lawOf_817 post mc ms (nI E) (nI (sr_c s)) x4 (nI (sr_A s)) (nI (sr_B s)) (nI (sr_C s)) 1 1 m kc ks (nI 53) a1 a2 a3 a4 a5 a6 := by
  unfold wL_lawOf_817
  exact sr_scale hE hs h1 (fun b4 hb => br_f (by decide) (sr_g835 hT hE hs hb rfl hp))
theorem sr_g797 (hT : sr_T a1 a2 a3) (hE : E < 2) (hs : s < 53) (h1 : sr_one a4 E s m) (hz : z1 = z0) (hp : post 1 ()) : wL_lawOf_797 post mc ms (nI E) (nI (sr_c s)) x4 (nI (sr_A s)) (nI (sr_B s)) (nI (sr_C s)) 1 1 m z0 z1 kc ks (nI 53) a1 a2 a3 a4 a5 a6 :=
  br_t hz (br_f (by decide) (sr_coefficient hT hE s hs (br_t (by rw [h1 s hs, if_pos rfl]) (sr_g817 hT hE hs h1 hp))))
theorem sr_g766 (hT : sr_T a1 a2 a3) (hE : E < 2) (hs : s < 53) (h1 : sr_one a4 E 0 m) (hp : post 1 ()) : wL_lawOf_766 post mc ms (nI E) (nI (sr_c s)) x4 (nI (sr_A s)) (nI (sr_B s)) (nI (sr_C s)) 1 1 m kc ks (nI 53) a1 a2 a3 a4 a5 a6 := by
  unfold wL_lawOf_766
  exact sr_part10 (br_t rfl (sr_timesShape hT hE hs h1 (fun b4 b5 hb => br_f (by decide) (sr_g797 hT hE hs hb rfl hp))))
theorem sr_g727 (hT : sr_T a1 a2 a3) (hE : E < 2) (hs : s < 53) (h1 : sr_one a4 E 0 m) (hz : z1 = z0) (hp : post 1 ()) : wL_lawOf_727 post mc ms (nI E) (nI (sr_c s)) x4 (nI (sr_A s)) (nI (sr_B s)) (nI (sr_C s)) 1 1 m z0 z1 kc ks (nI 53) a1 a2 a3 a4 a5 a6 := by
  refine br_t hz (br_f (by decide) (sr_coefficient hT hE 0 (by omega) (br_t (by rw [h1 0 (by omega), if_pos rfl]) ?_) rfl sr_c0))
  refine sr_shapes hE h1 (by omega) (br_c (fun e => br_t ?_ (sr_g766 hT hE hs h1 hp)) (fun e => br_t ?_ (sr_g766 hT hE hs h1 hp)))
  · rw [if_pos e]
  · rw [if_neg e]
theorem sr_g692 (hT : sr_T a1 a2 a3) (hE : E < 2) (hs : s < 53) (h1 : sr_one a4 E s m) (hz : z1 = z0) (hp : post 1 ()) : wL_lawOf_692 post mc ms (nI E) (nI (sr_c s)) x4 (nI (sr_A s)) (nI (sr_B s)) (nI (sr_C s)) 1 1 m z0 z1 kc ks (nI 53) a1 a2 a3 a4 a5 a6 :=
  br_t hz (sr_number0 hT (Or.inr (Or.inr sr_no10)) (br_t rfl (sr_skew hT hE hs h1 (fun b4 b5 hb => br_f (by decide) (sr_g727 hT hE hs hb rfl hp)))))
theorem sr_g662 (hT : sr_T a1 a2 a3) (hE : E < 2) (hs : s < 53) (h1 : sr_one a4 E s m) (hz : z1 = z0) (hp : post 1 ()) : wL_lawOf_662 post mc ms (nI E) (nI (sr_c s)) x4 (nI (sr_A s)) (nI (sr_B s)) (nI (sr_C s)) 1 1 1 m z0 z1 kc ks (nI 53) a1 a2 a3 a4 a5 a6 := by
  refine br_t hz (sr_number hT 0 s 1 (by omega) hs (by omega) (br_f (by decide) ?_) sr_c0 rfl sr_c1)
  rw [sr_CF3 hs]
  refine br_c (fun g => sr_g692 hT hE hs h1 ?_ hp) (fun g => sr_g692 hT hE hs h1 ?_ hp)
  · rw [if_pos ((sr_is1 s hs).mp g)]
  · rw [if_neg (fun t => g ((sr_is1 s hs).mpr t))]
theorem sr_g639 (hT : sr_T a1 a2 a3) (hE : E < 2) (hs : s < 53) (h1 : sr_one a4 E s m) (hz : z1 = z0) (hp : post 1 ()) : wL_lawOf_639 post mc ms (nI E) (nI (sr_c s)) x4 (nI (sr_A s)) (nI (sr_B s)) (nI (sr_C s)) 1 1 1 m z0 z1 kc ks (nI 53) a1 a2 a3 a4 a5 a6 := by
  refine br_t hz (sr_number hT s 0 s hs (by omega) hs (br_f (by decide) (sr_g662 hT hE hs h1 ?_ hp)) rfl sr_c0 rfl)
  rw [sr_CF1 hs (by omega), if_pos rfl]
theorem sr_Vs {g h : Nat → Int32} {s : Nat} (e : ∀ d, g d = h d) : sr_V g s = sr_V h s := by
  rw [funext e]
theorem sr_g489 (hT : sr_T a1 a2 a3) (hE : E < 2) (hs : s < 53) (h1 : sr_one a4 E s m) (hp : post 1 ()) : wL_lawOf_489 post mc ms (nI E) (nI (sr_c s)) x3 x4 x5 (nI (sr_A s)) (nI (sr_B s)) (nI (sr_C s)) 1 1 1 m kc ks (nI 53) a1 a2 a3 a4 a5 a6 := by
  unfold wL_lawOf_489
  obtain ⟨i, hi, ei⟩ := pk_andE x3 (m := 3) 2 (by decide)
  obtain ⟨j, hj, ej⟩ := pk_andE x4 (m := 3) 2 (by decide)
  obtain ⟨k, hk, ek⟩ := pk_andE x5 (m := 3) 2 (by decide)
  have hi : i < 4 := hi
  have hj : j < 4 := hj
  have hk : k < 4 := hk
  refine nm_r ei (nm_r ej (nm_r ek ?_))
  refine sr_mono hT hE hs h1 i j k (by omega) (by omega) (by omega) (sr_mono hT hE hs h1 k i j (by omega) (by omega) (by omega) (br_t ?_ ?_))
  · by_cases c : sr_sz s = i + j + k
    · rw [if_pos c, if_pos (show sr_sz s = k + i + j by omega), (sr_m2 hs hi hj hk c).1]
    · rw [if_neg c, if_neg (show ¬ sr_sz s = k + i + j by omega)]
  refine sr_mono hT hE hs h1 i j k (by omega) (by omega) (by omega) (sr_mono hT hE hs h1 j i k (by omega) (by omega) (by omega) (br_t ?_ ?_))
  · by_cases c : sr_sz s = i + j + k
    · rw [if_pos c, if_pos (show sr_sz s = j + i + k by omega), (sr_m2 hs hi hj hk c).2]
    · rw [if_neg c, if_neg (show ¬ sr_sz s = j + i + k by omega)]
  refine sr_value hT hE hs h1 (fun b6 => sr_value hT hE hs h1 (fun b6 => br_t ?_ ?_))
  · rw [sr_Vs (sr_h3r x5 x3 x4)]
  refine sr_value hT hE hs h1 (fun b6 => sr_value hT hE hs h1 (fun b6 => br_t ?_ ?_))
  · rw [sr_Vs (sr_h3t x3 x4 x5)]
  refine sr_coefficient hT hE 1 (by omega) (br_f (by decide) (br_c (fun g => sr_g639 hT hE hs h1 ?_ hp) (fun g => sr_g639 hT hE hs h1 ?_ hp))) rfl sr_c1
  · rw [h1 1 (by omega), if_pos ((sr_is1 s hs).mp g).symm]
  · rw [h1 1 (by omega), if_neg (fun t => g ((sr_is1 s hs).mpr t.symm))]
theorem sr_g412 (hT : sr_T a1 a2 a3) (hE : E < 2) (hs : s < 53) (h1 : sr_one a4 E s m) (hz : z1 = z0) (hp : post 1 ()) : wL_lawOf_412 post mc ms (nI E) (nI (sr_c s)) x3 x4 x5 (nI (sr_A s)) (nI (sr_B s)) (nI (sr_C s)) 1 1 1 m z0 z1 kc ks (nI 53) a1 a2 a3 a4 a5 a6 := by
  have b := sr_bnd s hs
  have em := sr_m1 hs
  refine br_t hz (br_f (by decide) ?_)
  refine sr_mono hT hE hs h1 (sr_A s) (sr_B s) (sr_C s) (by omega) (by omega) (by omega) (br_t ?_ ?_)
  · rw [if_pos (show sr_sz s = sr_A s + sr_B s + sr_C s from rfl), em.1, Int32.mul_one]
  refine sr_mono hT hE hs h1 (sr_C s) (sr_A s) (sr_B s) (by omega) (by omega) (by omega) (br_t ?_ ?_)
  · rw [if_pos (show sr_sz s = sr_C s + sr_A s + sr_B s by unfold sr_sz; omega), em.2, Int32.mul_one]
  have last : wpX_monomial (fun r_516 => (((r_516 = 0 → (wL_lawOf_489 post mc ms (nI E) (nI (sr_c s)) x3 x4 x5 (nI (sr_A s)) (nI (sr_B s)) (nI (sr_C s)) 1 1 1 m kc ks (nI 53) a1 a2 a3 a4 a5 a6)) ∧ (¬ r_516 = 0 → (post 0 ()))))) (nI 53, a1, a2, a3, a4, a5, a6) (nI E) (-1) (nI (sr_B s)) (nI (sr_C s)) :=
    sr_mono0 hE (Or.inl (by decide)) (br_t rfl (sr_g489 hT hE hs h1 hp))
  by_cases c : sr_A s + 1 ≤ 9
  · refine sr_mono hT hE hs h1 (sr_A s + 1) (sr_B s) (sr_C s) (by omega) (by omega) (by omega) (br_t ?_ last) rfl (nI_1 _)
    rw [if_neg (show ¬ sr_sz s = sr_A s + 1 + sr_B s + sr_C s by unfold sr_sz; omega)]
  · refine sr_mono0 hE (Or.inr ?_) (br_t rfl last)
    rw [nI_1]
    exact nI_lt (a := 9) (by omega) (by omega)
theorem sr_g384 (hT : sr_T a1 a2 a3) (hE : E < 2) (hs : s < 53) (h1 : sr_one a4 E s m) (hz : z1 = z0) (hp : post 1 ()) : wL_lawOf_384 post mc ms (nI E) (nI (sr_c s)) x3 x4 x5 (nI (sr_A s)) (nI (sr_B s)) (nI (sr_C s)) 1 1 1 m z0 z1 kc ks (nI 53) a1 a2 a3 a4 a5 a6 := by
  refine br_t hz (sr_shapes hE h1 hs (br_f (by decide) (br_c (fun e => sr_g412 hT hE hs h1 ?_ hp) (fun e => sr_g412 hT hE hs h1 ?_ hp))))
  · rw [if_pos e]
  · rw [if_neg e]
theorem sr_g361 {x15 : Int32} (hT : sr_T a1 a2 a3) (hE : E < 2) (hs : s < 53) (h1 : sr_one a4 E s m) (hx : x15 = if sr_B s = 0 then m else 0) (hz : z1 = z0) (hp : post 1 ()) : wL_lawOf_361 post mc ms (nI E) (nI (sr_c s)) x3 x4 x5 (nI (sr_A s)) (nI (sr_B s)) (nI (sr_C s)) 1 1 1 m x15 z0 z1 kc ks (nI 53) a1 a2 a3 a4 a5 a6 := by
  refine br_t hz (sr_value hT hE hs h1 (fun b6 => br_f (by decide) (sr_g384 hT hE hs h1 ?_ hp)))
  rw [sr_V2 hs, hx]
  by_cases e : sr_B s = 0
  · rw [if_pos e, if_pos e, Int32.mul_one]
  · rw [if_neg e, if_neg e, Int32.mul_zero]
theorem sr_g336 (hT : sr_T a1 a2 a3) (hE : E < 2) (hs : s < 53) (h1 : sr_one a4 E s m) (hz : z0 = if sr_B s = 0 then m else 0) (hp : post 1 ()) : wL_lawOf_336 post mc ms (nI E) (nI (sr_c s)) x3 x4 x5 (nI (sr_A s)) (nI (sr_B s)) (nI (sr_C s)) 1 1 1 m ((((nI (sr_A s) - nI (sr_B s)) + 1) * ((nI (sr_B s) - nI (sr_C s)) + 1)) * ((nI (sr_A s) - nI (sr_C s)) + 2) / 2) z0 kc ks (nI 53) a1 a2 a3 a4 a5 a6 := by
  unfold wL_lawOf_336
  refine sr_value hT hE hs h1 (fun b6 => br_f (by decide) (sr_g361 hT hE hs h1 hz ?_ hp))
  rw [sr_V1 hs]
theorem sr_g267 (hT : sr_T a1 a2 a3) (hE : E < 2) (hs : s < 53) (h1 : sr_one a4 E s m) (hz : z1 = z0) (hp : post 1 ()) : wL_lawOf_267 post mc ms (nI E) (nI (sr_c s)) m x3 x4 x5 (nI (sr_A s)) (nI (sr_B s)) (nI (sr_C s)) 1 1 1 z0 z1 kc ks (nI 53) a1 a2 a3 a4 a5 a6 := by
  have b := sr_bnd s hs
  refine br_t hz (br_f (by decide) (br_f (by decide) ⟨by decide, br_f (by decide) ?_⟩))
  refine pk_eq (sr_B s) 0 (fun e => ?_) (fun e => ?_)
  · exact sr_g336 hT hE hs h1 (by rw [if_pos e]) hp
  · unfold wL_lawOf_335
    exact sr_g336 hT hE hs h1 (by rw [if_neg e]) hp
theorem sr_g227 (hT : sr_T a1 a2 a3) (hE : E < 2) (hs : s < 53) (h1 : sr_one a4 E s m) (hz : z1 = z0) (hp : post 1 ()) : wL_lawOf_227 post mc ms (nI E) (nI (sr_c s)) m x3 x4 x5 (nI (sr_A s)) (nI (sr_B s)) (nI (sr_C s)) 1 1 1 z0 z1 kc ks (nI 53) a1 a2 a3 a4 a5 a6 := by
  refine br_t hz (sr_degree hT hE h1 hs (br_f (by decide) (br_f (by decide) (br_c (fun e => ?_) (fun e => ?_)))))
  · unfold wL_lawOf_265
    exact sr_g267 hT hE hs h1 (if_pos e) hp
  · exact sr_g267 hT hE hs h1 (by rw [if_neg e, sr_szI]) hp
theorem sr_g207 (hT : sr_T a1 a2 a3) (hE : E < 2) (hs : s < 53) (h1 : sr_one a4 E s m) (hz : z1 = z0) (hp : post 1 ()) : wL_lawOf_207 post mc ms (nI E) (nI (sr_c s)) m x3 x4 x5 (nI (sr_A s)) (nI (sr_B s)) (nI (sr_C s)) 1 1 1 z0 z1 kc ks (nI 53) a1 a2 a3 a4 a5 a6 :=
  br_t hz (sr_coefficient hT hE s hs (br_f (by decide) (sr_g227 hT hE hs h1 (by rw [h1 s hs, if_pos rfl]) hp)))
end
end
section
/-! The law's head, and what is owed. -/
section
variable {post : Int32 → St0 → Prop} {mc ms kc ks : Nat} {x0 x1 x2 x3 x4 x5 x7 x8 x9 x10 x11 x12 z0 z1 : Int32} {f : Int32} {a1 a2 a3 a4 a5 a6 : Nat → Int32}
/-- what the law's three flags say -/
def sr_cl (x0 x1 x7 x8 x9 x10 x11 x12 : Int32) : Prop :=
  (x12 = 0 ∧ sr_cd x1 x11 ∧ sr_ng x0 x1) ∨ (x10 = 1 ∧ x11 = 1 ∧ x12 = 1 ∧ ∃ E s, E < 2 ∧ s < 53 ∧ x0 = nI E ∧ x1 = nI (sr_c s) ∧ x7 = nI (sr_A s) ∧ x8 = nI (sr_B s) ∧ x9 = nI (sr_C s))
theorem sr_t168 (hT : sr_T a1 a2 a3) (hG : sr_ge x0 x10) (hL : sr_cl x0 x1 x7 x8 x9 x10 x11 x12) (hZ : sr_Z a4) (hz : z1 = z0) (hp : post 1 ()) : wL_lawOf_168 post mc ms x0 x1 x2 x3 x4 x5 x7 x8 x9 x10 x11 x12 z0 z1 kc ks (nI 53) a1 a2 a3 a4 a5 a6 := by
  refine br_t hz (sr_inner hZ.1 (br_t rfl (sr_product hT hZ.1 hZ.2 (fun b4 b5 h0 h1 => br_t rfl ?_))))
  have hZ' : sr_Z b4 := ⟨h0, h1⟩
  rcases hL with ⟨rfl, hC, hN⟩ | ⟨rfl, rfl, rfl, E, s, hE, hs, rfl, rfl, rfl, rfl, rfl⟩
  · exact sr_add1 hT hN (br_t rfl (sr_n207 hT hG hC hN hZ' rfl hp))
  · exact sr_add hT hE hs (sr_Zi hZ' hE) (fun c4 hc => br_f (by decide) (sr_g207 hT hE hs hc rfl hp))
theorem sr_t144 (hT : sr_T a1 a2 a3) (hG : sr_ge x0 x10) (hL : sr_cl x0 x1 x7 x8 x9 x10 x11 x12) (hZ : sr_Z a4) (hz : z1 = z0) (hp : post 1 ()) : wL_lawOf_144 post mc ms x0 x1 x2 x3 x4 x5 x7 x8 x9 x10 x11 x12 z0 z1 kc ks (nI 53) a1 a2 a3 a4 a5 a6 := by
  refine br_t hz ?_
  have hG' := hG
  rcases hG' with ⟨rfl, h⟩ | ⟨rfl, E, hE, rfl⟩
  · exact sr_value1 h (br_t rfl (sr_t168 hT hG hL hZ rfl hp))
  · exact sr_valueZ hT hE (sr_Zi hZ hE) (fun b6 => br_f (by decide) (sr_t168 hT hG hL hZ rfl hp))
theorem sr_t125 (hT : sr_T a1 a2 a3) (hG : sr_ge x0 x10) (hL : sr_cl x0 x1 x7 x8 x9 x10 x11 x12) (hZ : sr_Z a4) (hz : z1 = z0) (hp : post 1 ()) : wL_lawOf_125 post mc ms x0 x1 x2 x3 x4 x5 x7 x8 x9 x10 x11 x12 z0 z1 kc ks (nI 53) a1 a2 a3 a4 a5 a6 := by
  refine br_t hz ?_
  have hG' := hG
  rcases hG' with ⟨rfl, h⟩ | ⟨rfl, E, hE, rfl⟩
  · exact sr_shapes1 h (br_t rfl (sr_t144 hT hG hL hZ rfl hp))
  · exact sr_shapes hE (sr_Zi hZ hE) (by omega) (br_f (by decide) (sr_t144 hT hG hL hZ (if_pos rfl) hp))
theorem sr_t106 (hT : sr_T a1 a2 a3) (hG : sr_ge x0 x10) (hL : sr_cl x0 x1 x7 x8 x9 x10 x11 x12) (hZ : sr_Z a4) (hp : post 1 ()) : wL_lawOf_106 post mc ms x0 x1 x2 x3 x4 x5 x7 x8 x9 x10 x11 x12 kc ks (nI 53) a1 a2 a3 a4 a5 a6 := by
  unfold wL_lawOf_106
  have hG' := hG
  rcases hG' with ⟨rfl, h⟩ | ⟨rfl, E, hE, rfl⟩
  · exact sr_degree1 h (br_t rfl (sr_t125 hT hG hL hZ rfl hp))
  · exact sr_degree hT hE (sr_Zi hZ hE) (by omega) (br_f (by decide) (sr_t125 hT hG hL hZ (if_pos rfl) hp))
theorem sr_t105 (hT : sr_T a1 a2 a3) (hG : sr_ge x0 x10) (hC : sr_cd x1 x11) (hN : sr_ng x0 x1) (hZ : sr_Z a4) (hp : post 1 ()) : wL_lawOf_105 post mc ms x0 x1 x2 x3 x4 x5 x7 x8 x9 x10 x11 kc ks (nI 53) a1 a2 a3 a4 a5 a6 := by
  unfold wL_lawOf_105
  exact sr_t106 hT hG (Or.inl ⟨rfl, hC, hN⟩) hZ hp
theorem sr_t88 (hT : sr_T a1 a2 a3) (hG : sr_ge x0 x10) (hno : sr_no x1) (hZ : sr_Z a4) (hp : post 1 ()) : wL_lawOf_88 post mc ms x0 x1 x2 x3 x4 x5 x7 x8 x9 x10 kc ks (nI 53) a1 a2 a3 a4 a5 a6 := by
  unfold wL_lawOf_88
  have k : wL_lawOf_105 post mc ms x0 x1 x2 x3 x4 x5 x7 x8 x9 x10 0 kc ks (nI 53) a1 a2 a3 a4 a5 a6 := sr_t105 hT hG (Or.inl ⟨rfl, hno⟩) (Or.inr hno) hZ hp
  exact br_c (fun _ => k) (fun _ => br_t rfl k)
theorem sr_t89 {s : Nat} (hT : sr_T a1 a2 a3) (hG : sr_ge x0 x10) (hs : s < 53) (hZ : sr_Z a4) (hp : post 1 ()) : wL_lawOf_89 post mc ms x0 (nI (sr_c s)) x2 x3 x4 x5 (nI (sr_A s)) (nI (sr_B s)) (nI (sr_C s)) x10 1 kc ks (nI 53) a1 a2 a3 a4 a5 a6 := by
  have hG' := hG
  rcases hG' with ⟨rfl, h⟩ | ⟨rfl, E, hE, rfl⟩
  · exact br_t rfl (sr_t105 hT hG (Or.inr ⟨rfl, s, hs, rfl⟩) (Or.inl h) hZ hp)
  · exact br_f (by decide) (br_f (by decide) (sr_t106 hT hG (Or.inr ⟨rfl, rfl, rfl, E, s, hE, hs, rfl, rfl, rfl, rfl, rfl⟩) hZ hp))
theorem sr_t44 (hT : sr_T a1 a2 a3) (hG : sr_ge x0 x10) (hZ : sr_Z a4) (hp : post 1 ()) : wL_lawOf_44 post mc ms x0 x1 x2 x3 x4 x5 (x1 - x1 / 10 * 10) ((x1 / 10) - (x1 / 10) / 10 * 10) (x1 / 100) x10 kc ks (nI 53) a1 a2 a3 a4 a5 a6 := by
  rcases sr_cases x1 with c | ⟨s, hs, rfl⟩
  · have k : ∀ y7 y8 y9, wL_lawOf_88 post mc ms x0 x1 x2 x3 x4 x5 y7 y8 y9 x10 kc ks (nI 53) a1 a2 a3 a4 a5 a6 := fun _ _ _ => sr_t88 hT hG c hZ hp
    refine br_c (fun _ => k _ _ _) (fun g1 => br_c (fun _ => k _ _ _) (fun g2 => br_c (fun _ => k _ _ _) (fun g3 => br_c (fun _ => k _ _ _) (fun g4 => br_c (fun _ => k _ _ _) (fun g5 => ?_)))))
    obtain ⟨j, hj, rfl⟩ := nI_of g1
    have hj2 : j < 1000 := by
      rcases Nat.lt_or_ge j 1000 with q | q
      · exact q
      · exact absurd (nI_le (a := 1000) q hj) g2
    rw [sr_d1 hj, sr_d2 hj] at g3
    rw [sr_d2 hj, sr_d3 hj] at g4
    rw [sr_d1 hj, sr_d2 hj, sr_d3 hj, nI_add, nI_add] at g5
    have q3 : j / 10 % 10 ≤ j % 10 := by
      rcases Nat.lt_or_ge (j % 10) (j / 10 % 10) with q | q
      · exact absurd (nI_lt q (by omega)) g3
      · exact q
    have q4 : j / 100 ≤ j / 10 % 10 := by
      rcases Nat.lt_or_ge (j / 10 % 10) (j / 100) with q | q
      · exact absurd (nI_lt q (by omega)) g4
      · exact q
    have q5 : j % 10 + j / 10 % 10 + j / 100 ≤ 9 := by
      rcases Nat.lt_or_ge 9 (j % 10 + j / 10 % 10 + j / 100) with q | q
      · exact absurd (nI_lt (a := 9) q (by omega)) g5
      · exact q
    have hsh : sr_sh j = true := by unfold sr_sh; simp; omega
    obtain ⟨s, hs, e⟩ := sr_mem hj2 hsh
    exact absurd (by rw [e]) (c s hs)
  · have b := sr_bnd s hs
    have hl : sr_c s < 2 ^ 31 := by omega
    rw [sr_d1 hl, sr_d2 hl, sr_d3 hl]
    have k := sr_t89 (post := post) (mc := mc) (ms := ms) (kc := kc) (ks := ks) (x2 := x2) (x3 := x3) (x4 := x4) (x5 := x5) (a5 := a5) (a6 := a6) hT hG hs hZ hp
    exact pk_lt (sr_c s) 0 (fun z => absurd z (by omega)) (fun _ => pk_le 1000 (sr_c s) (fun z => absurd z (by omega)) (fun _ => pk_lt (sr_A s) (sr_B s) (fun z => absurd z (by omega)) (fun _ => pk_lt (sr_B s) (sr_C s) (fun z => absurd z (by omega)) (fun _ => pk_lt 9 (sr_A s + sr_B s + sr_C s) (fun z => absurd z (by omega)) (fun _ => k) rfl (by rw [nI_add, nI_add]; rfl)))))
theorem sr_lawOf (h1 : 7 ≤ mc) (h2 : 379 ≤ ms) (hp : post 1 ()) : wpL_lawOf post mc ms () x0 x1 x2 x3 x4 x5 := by
  refine ⟨by omega, by omega, 6, 372, by omega, by omega, sr_init (by omega) (by omega) (fun a1 a2 a3 hT => ⟨by decide, nm_e ⟨by decide, by decide, nm_e ⟨by decide, nm_e ?_⟩⟩⟩)⟩
  have hZ : sr_Z (fun _ => 0) := ⟨fun j _ => by rw [ite_self], fun j _ => by rw [ite_self]⟩
  refine br_c (fun e => ?_) (fun e0 => br_c (fun e => ?_) (fun e1 => ?_))
  · unfold wL_lawOf_39
    exact sr_t44 hT (Or.inr ⟨rfl, 0, by omega, e⟩) hZ hp
  · unfold wL_lawOf_39
    exact sr_t44 hT (Or.inr ⟨rfl, 1, by omega, e⟩) hZ hp
  · exact sr_t44 hT (Or.inl ⟨rfl, fun t => t.elim e0 e1⟩) hZ hp
end
theorem sr_cellAt {post : Int32 → Prop} {L : Nat} {xs : Nat → Int32} {u : St0} {x : Int32} (k : Nat) (hk : k < 6) (hL : L ≤ 6) (H : ∀ r, post r) (hx : x = nI k := by rfl) : wpL_cellAt post L xs u x := by
  unfold wpL_cellAt
  exact pk_le L k (fun _ => H _) (fun z => ⟨pk_in k L (by omega) hx, H _⟩) rfl hx
theorem i_vc (xs : Nat → Int32) (L : Nat) (hL : L ≤ 6) : wpL_law (fun r => r = 1) L xs := by
  unfold wpL_law
  exact sr_cellAt 0 (by omega) hL (fun _ => sr_cellAt 1 (by omega) hL (fun _ => sr_cellAt 2 (by omega) hL (fun _ => sr_cellAt 3 (by omega) hL (fun _ => sr_cellAt 4 (by omega) hL (fun _ => sr_cellAt 5 (by omega) hL (fun _ => ⟨138, 2192, by omega, by omega, sr_lawOf (by omega) (by omega) rfl⟩))))))
end
