section
/-! the picture: numbers and arrays -/
def lo_S (q u v k : Nat) : Int32 := if q < 4 ∧ (u = k ∨ v = k) then nI (2 ^ q) else 0
def lo_L (id : Nat) (z : Int32) (f : Nat → Int32) : Prop := ∀ i, i < 36 → f i = if i = id then z else -1
def lo_Q (q u v : Nat) (f g : Nat → Int32) : Prop := ∀ i, i < 4 → (f i = if i = q then nI u else -1) ∧ (g i = if i = q then nI v else -1)
def lo_pw (e : Nat) : Int64 := if e = 0 then 1 else 10
def lo_vf (val x : Nat) : Nat := val / 4 ^ x % 4
def lo_set (val x t : Nat) : Nat := val - val / 4 ^ x % 4 * 4 ^ x + t * 4 ^ x
theorem lo_vf_lt (val x : Nat) : lo_vf val x < 4 := Nat.mod_lt _ (by decide)
theorem lo_Ly {id : Nat} {z : Int32} {f : Nat → Int32} (h : lo_L id z f) {i : Nat} (hi : i < 36) (e : i = id) : f i = z := by
  rw [h i hi, if_pos e]
theorem lo_Ln {id : Nat} {z : Int32} {f : Nat → Int32} (h : lo_L id z f) {i : Nat} (hi : i < 36) (e : i ≠ id) : f i = -1 := by
  rw [h i hi, if_neg e]
theorem lo_Q1 {q u v : Nat} {f g : Nat → Int32} (h : lo_Q q u v f g) {i : Nat} (hi : i < 4) (e : i = q) : f i = nI u ∧ g i = nI v := by
  have t := h i hi
  rw [if_pos e, if_pos e] at t
  exact t
theorem lo_Q0 {q u v : Nat} {f g : Nat → Int32} (h : lo_Q q u v f g) {i : Nat} (hi : i < 4) (e : i ≠ q) : f i = -1 ∧ g i = -1 := by
  have t := h i hi
  rw [if_neg e, if_neg e] at t
  exact t
theorem lo_m1 {k : Nat} (hk : k < 3) : ¬ (-1 : Int32) = nI k := by
  have h : ∀ k, k < 3 → ¬ (-1 : Int32) = nI k := by decide +kernel
  exact h k hk
theorem lo_sh1 : ∀ i, i < 4 → (0 : Int32) ||| ((1 : Int32) <<< (nI i &&& 31)) = nI (2 ^ i) := by decide +kernel
theorem lo_p0 : ∀ q, q < 4 → ¬ nI (2 ^ q) = 0 := by decide +kernel
theorem lo_neg : ∀ q, q < 4 → nI (2 ^ q) &&& (-(nI (2 ^ q))) = nI (2 ^ q) := by decide +kernel
theorem lo_bit : ∀ q, q < 4 → ∀ i, i < 4 → ((((nI (2 ^ q)).toUInt32 >>> ((nI i).toUInt32 &&& Int32.toUInt32 31)).toInt32 &&& 1) = 0 ↔ i ≠ q) := by decide +kernel
theorem lo_pp : ∀ q, q < 4 → nI (2 ^ q) &&& nI (2 ^ q) = nI (2 ^ q) := by decide +kernel
theorem lo_op : ∀ q, q < 4 → nI (2 ^ q) ||| nI (2 ^ q) = nI (2 ^ q) := by decide +kernel
theorem lo_zp : ∀ q, q < 4 → (0 : Int32) &&& nI (2 ^ q) = 0 := by decide +kernel
theorem lo_pz : ∀ q, q < 4 → nI (2 ^ q) ||| 0 = nI (2 ^ q) := by decide +kernel
theorem lo_za (x : Int32) : (0 : Int32) &&& x = 0 := Int32.zero_and
theorem lo_az (x : Int32) : x &&& (0 : Int32) = 0 := Int32.and_zero
theorem lo_S1 {q u v k : Nat} (hq : q < 4) (h : u = k ∨ v = k) : lo_S q u v k = nI (2 ^ q) := if_pos ⟨hq, h⟩
theorem lo_S0 {q u v k : Nat} (h : ¬ (u = k ∨ v = k)) : lo_S q u v k = 0 := if_neg (fun t => h t.2)
theorem lo_S2 (q u v k : Nat) : lo_S q u v k = 0 ∨ (q < 4 ∧ (u = k ∨ v = k) ∧ lo_S q u v k = nI (2 ^ q)) := by
  unfold lo_S
  by_cases h : q < 4 ∧ (u = k ∨ v = k)
  · rw [if_pos h]
    exact Or.inr ⟨h.1, h.2, rfl⟩
  · rw [if_neg h]
    exact Or.inl rfl
theorem lo_and (q u v k l : Nat) : lo_S q u v k &&& lo_S q u v l = 0 ∨ lo_S q u v k &&& lo_S q u v l = lo_S q u v k := by
  rcases lo_S2 q u v k with e | ⟨hq, _, e⟩
  · rw [e, lo_za]
    exact Or.inl rfl
  · rcases lo_S2 q u v l with e' | ⟨_, _, e'⟩
    · rw [e', lo_az]
      exact Or.inl rfl
    · rw [e, e', lo_pp q hq]
      exact Or.inr rfl
theorem lo_sor {q u v k : Nat} (hq : q < 4) : nI (2 ^ q) ||| (lo_S q u v k &&& nI (2 ^ q)) = nI (2 ^ q) := by
  rcases lo_S2 q u v k with e | ⟨_, _, e⟩
  · rw [e, lo_za, lo_pz q hq]
  · rw [e, lo_pp q hq, lo_op q hq]
theorem lo_vfE : ∀ val, val < 64 → ∀ x, x < 3 → (((nI val).toUInt32 >>> ((2 * nI x).toUInt32 &&& Int32.toUInt32 31)).toInt32) &&& 3 = nI (lo_vf val x) := by decide +kernel
theorem lo_clrE : ∀ val, val < 64 → ∀ x, x < 3 → nI val &&& (((3 : Int32) <<< ((2 * nI x) &&& 31)) ^^^ (-1)) = nI (lo_set val x 0) := by decide +kernel
theorem lo_setE : ∀ val, val < 64 → ∀ x, x < 3 → ∀ t, t < 3 → (nI val &&& (((3 : Int32) <<< ((2 * nI x) &&& 31)) ^^^ (-1))) ||| (nI t <<< ((2 * nI x) &&& 31)) = nI (lo_set val x t) := by decide +kernel
theorem lo_set_lt : ∀ val, val < 64 → ∀ x, x < 3 → ∀ t, t < 3 → lo_set val x t < 64 := by decide +kernel
theorem lo_set_s : ∀ val, val < 64 → ∀ x, x < 3 → ∀ t, t < 3 → lo_vf (lo_set val x t) x = t := by decide +kernel
theorem lo_set_n : ∀ val, val < 64 → ∀ x, x < 3 → ∀ t, t < 3 → ∀ y, y < 3 → y ≠ x → lo_vf (lo_set val x t) y = lo_vf val y := by decide +kernel
theorem lo_vf63 : ∀ x, x < 3 → lo_vf 63 x = 3 := by decide +kernel
theorem lo_idE (q a b : Nat) : ((9 * nI q) + (3 * nI a)) + nI b = nI (9 * q + 3 * a + b) := by
  show nI 9 * nI q + nI 3 * nI a + nI b = _
  rw [pk_mul, pk_mul, nI_add, nI_add]
/-! the methods that only read -/
section
variable {R A D : Int32} {sh : Int64} {ex : Int32} {a1 a2 a3 a4 a5 a6 a7 a8 a9 a10 a11 a12 : Nat → Int32} {a13 : Nat → Int64} {a14 : Nat → Int32}
theorem lo_aw {post : Int32 → Prop} {q u v k : Nat} (hu : u < 3) (hv : v < 3) (hQ : lo_Q q u v a3 a4) (hk : k < 3) (hp : post (lo_S q u v k)) : wpX_atomsWith post (R, A, D, sh, ex, a1, a2, a3, a4, a5, a6, a7, a8, a9, a10, a11, a12, a13, a14) (nI k) := by
  show ∃ fu4 : Nat, wX_atomsWith_4 post (nI k) R A D sh ex a1 a2 a3 a4 a5 a6 a7 a8 a9 a10 a11 a12 a13 a14 fu4 0 0
  refine pk_loop (fun n i s => wX_atomsWith_4 post (nI k) R A D sh ex a1 a2 a3 a4 a5 a6 a7 a8 a9 a10 a11 a12 a13 a14 n s (nI i)) (fun i s => s = if q < i ∧ (u = k ∨ v = k) then nI (2 ^ q) else 0) 4 0 0 (by omega) (by rw [if_neg (by omega)]) ?_ ?_
  · intro n s h
    refine pk_le 4 4 (fun _ => ?_) (fun z => absurd z (by omega))
    rw [h]
    exact hp
  · intro n i s hi h hw
    refine pk_le 4 i (fun z => absurd z (by omega)) (fun _ => ⟨pk_in i 4 hi, ?_⟩)
    rw [nI_clamp (show i < 2 ^ 31 by omega)]
    by_cases e : i = q
    · have t := lo_Q1 hQ hi e
      rw [t.1, t.2]
      have hs : s = 0 := by rw [h, if_neg (by omega)]
      refine pk_eq u k (fun z => ?_) (fun z => ⟨pk_in i 4 hi, pk_eq v k (fun z2 => ?_) (fun z2 => ?_)⟩)
      · refine nm_r (e' := nI (2 ^ i)) (by rw [hs]; exact lo_sh1 i hi) (nm_r (nI_1 i) (hw _ ?_))
        rw [if_pos ⟨by omega, Or.inl z⟩, e]
      · refine nm_r (e' := nI (2 ^ i)) (by rw [hs]; exact lo_sh1 i hi) (nm_r (nI_1 i) (hw _ ?_))
        rw [if_pos ⟨by omega, Or.inr z2⟩, e]
      · refine nm_r (nI_1 i) (hw _ ?_)
        rw [hs, if_neg (by omega)]
    · have t := lo_Q0 hQ hi e
      rw [t.1, t.2]
      refine br_f (lo_m1 hk) ⟨pk_in i 4 hi, br_f (lo_m1 hk) (nm_r (nI_1 i) (hw _ ?_))⟩
      rw [h]
      by_cases c : u = k ∨ v = k
      · by_cases c2 : q < i
        · rw [if_pos ⟨c2, c⟩, if_pos ⟨by omega, c⟩]
        · rw [if_neg (fun t => c2 t.1), if_neg (fun t => c2 (by omega))]
      · rw [if_neg (fun t => c t.2), if_neg (fun t => c t.2)]
theorem lo_nested {post : Int32 → Prop} {q u v : Nat} (hu : u < 3) (hv : v < 3) (hQ : lo_Q q u v a3 a4) (hp : post 1) : wpX_nested post (R, A, D, sh, ex, a1, a2, a3, a4, a5, a6, a7, a8, a9, a10, a11, a12, a13, a14) := by
  show ∃ fu2 : Nat, wX_nested_2 post R A D sh ex a1 a2 a3 a4 a5 a6 a7 a8 a9 a10 a11 a12 a13 a14 fu2 0
  refine pk_loop (σ := Unit) (fun n i _ => wX_nested_2 post R A D sh ex a1 a2 a3 a4 a5 a6 a7 a8 a9 a10 a11 a12 a13 a14 n (nI i)) (fun _ _ => True) 3 0 () (by omega) trivial ?_ ?_
  · exact fun n _ _ => pk_le 3 3 (fun _ => hp) (fun z => absurd z (by omega))
  · intro n i _ hi _ hw
    refine pk_le 3 i (fun z => absurd z (by omega)) (fun _ => ?_)
    refine pk_loop (σ := Unit) (fun m j _ => wX_nested_9 post (wX_nested_2 post R A D sh ex a1 a2 a3 a4 a5 a6 a7 a8 a9 a10 a11 a12 a13 a14 n) (nI i) R A D sh ex a1 a2 a3 a4 a5 a6 a7 a8 a9 a10 a11 a12 a13 a14 m (nI j)) (fun _ _ => True) i 0 () (by omega) trivial ?_ ?_
    · exact fun m _ _ => pk_le i i (fun _ => nm_r (nI_1 i) (hw () trivial)) (fun z => absurd z (by omega))
    · intro m j _ hj _ hg
      refine pk_le i j (fun z => absurd z (by omega)) (fun _ => lo_aw hu hv hQ hi (lo_aw hu hv hQ (by omega) (nm_e ?_)))
      rcases lo_and q u v i j with e | e
      · exact br_t e (nm_r (nI_1 j) (hg () trivial))
      · exact br_c (fun _ => nm_r (nI_1 j) (hg () trivial)) (fun _ => br_t e (nm_r (nI_1 j) (hg () trivial)))
def lo_in3 (p0 p1 p2 : Int32) : Prop := ¬ p0 < 0 ∧ ¬ 3 < p0 ∧ ¬ p1 < 0 ∧ ¬ 2 < p1 ∧ ¬ p2 < 0 ∧ ¬ 2 < p2
theorem lo_isRow {post : Int32 → Prop} {p0 p1 p2 : Int32} (hT : lo_in3 p0 p1 p2 → post 1) (hF : ¬ lo_in3 p0 p1 p2 → post 0) : wpX_isRow post () p0 p1 p2 :=
  br_c (fun h => hF (fun t => t.1 h)) (fun h0 => br_c (fun h => hF (fun t => t.2.1 h)) (fun h1 => br_c (fun h => hF (fun t => t.2.2.1 h)) (fun h2 =>
    br_c (fun h => hF (fun t => t.2.2.2.1 h)) (fun h3 => br_c (fun h => hF (fun t => t.2.2.2.2.1 h)) (fun h4 => br_c (fun h => hF (fun t => t.2.2.2.2.2 h)) (fun h5 => hT ⟨h0, h1, h2, h3, h4, h5⟩))))))
theorem lo_le3 {x : Int32} (n : Nat) (hn : n < 2 ^ 31) (h0 : ¬ x < 0) (h : ¬ nI n < x) : ∃ j : Nat, j ≤ n ∧ x = nI j :=
  nI_of2 (M := nI n) (nI_toInt hn) h0 (Int32.not_lt.mp h)
theorem lo_in3_of {p0 p1 p2 : Int32} (h : lo_in3 p0 p1 p2) : ∃ r a b : Nat, r < 4 ∧ a < 3 ∧ b < 3 ∧ p0 = nI r ∧ p1 = nI a ∧ p2 = nI b := by
  obtain ⟨h0, h1, h2, h3, h4, h5⟩ := h
  obtain ⟨r, hr, e0⟩ := lo_le3 3 (by omega) h0 h1
  obtain ⟨a, ha, e1⟩ := lo_le3 2 (by omega) h2 h3
  obtain ⟨b, hb, e2⟩ := lo_le3 2 (by omega) h4 h5
  exact ⟨r, a, b, by omega, by omega, by omega, e0, e1, e2⟩
theorem lo_valueOf {post : Int32 → Prop} {val x : Nat} (hval : val < 64) (hx : x < 3) (hp : post (nI (lo_vf val x))) : wpX_valueOf post () (nI val) (nI x) := by
  unfold wpX_valueOf
  rw [lo_vfE val hval x hx]
  exact hp
theorem lo_free {post : Int32 → Prop} {val x : Nat} (hval : val < 64) (hx : x < 3) (hT : lo_vf val x = 3 → post 1) (hF : lo_vf val x ≠ 3 → post 0) : wpX_isFree post (R, A, D, sh, ex, a1, a2, a3, a4, a5, a6, a7, a8, a9, a10, a11, a12, a13, a14) (nI val) (nI x) := by
  have hb := lo_vf_lt val x
  unfold wpX_isFree
  exact lo_valueOf hval hx (pk_eq (lo_vf val x) 3 hT hF)
theorem lo_comp {post : Int32 → Prop} {q u v val : Nat} (hq : q < 4) (hu : u < 3) (hv : v < 3) (hQ : lo_Q q u v a3 a4) (hval : val < 64) (hp : post (nI (2 ^ q))) : wpX_componentOf post (R, A, D, sh, ex, a1, a2, a3, a4, a5, a6, a7, a8, a9, a10, a11, a12, a13, a14) (nI (2 ^ q)) (nI val) := by
  refine nm_r (P := fun x3 => ∃ fu8 : Nat, wX_componentOf_8 post (nI (2 ^ q)) (nI val) R A D sh ex a1 a2 a3 a4 a5 a6 a7 a8 a9 a10 a11 a12 a13 a14 fu8 x3 0) (lo_neg q hq) ?_
  refine pk_loop (σ := Unit) (fun n i _ => wX_componentOf_8 post (nI (2 ^ q)) (nI val) R A D sh ex a1 a2 a3 a4 a5 a6 a7 a8 a9 a10 a11 a12 a13 a14 n (nI (2 ^ q)) (nI i)) (fun _ _ => True) 4 0 () (by omega) trivial ?_ ?_
  · exact fun n _ _ => pk_le 4 4 (fun _ => hp) (fun z => absurd z (by omega))
  · intro n i _ hi _ hw
    refine pk_le 4 i (fun z => absurd z (by omega)) (fun _ => ?_)
    refine pk_loop (σ := Unit) (fun m j _ => wX_componentOf_17 post (wX_componentOf_8 post (nI (2 ^ q)) (nI val) R A D sh ex a1 a2 a3 a4 a5 a6 a7 a8 a9 a10 a11 a12 a13 a14 n) (nI (2 ^ q)) (nI val) (nI i) R A D sh ex a1 a2 a3 a4 a5 a6 a7 a8 a9 a10 a11 a12 a13 a14 m (nI (2 ^ q)) (nI j)) (fun _ _ => True) 3 0 () (by omega) trivial ?_ ?_
    · exact fun m _ _ => pk_le 3 3 (fun _ => nm_r (nI_1 i) (hw () trivial)) (fun z => absurd z (by omega))
    · intro m j _ hj _ hg
      refine pk_le 3 j (fun z => absurd z (by omega)) (fun _ => lo_aw hu hv hQ hj (nm_e (lo_free hval hj (fun _ => ?_) (fun _ => ?_))))
      · exact br_f (by decide) (br_c (fun _ => nm_r (nI_1 j) (hg () trivial)) (fun _ => nm_r (lo_sor hq) (nm_r (nI_1 j) (hg () trivial))))
      · exact br_t rfl (nm_r (nI_1 j) (hg () trivial))
theorem lo_ground {post : Int32 → Prop} {q u v val : Nat} (hq : q < 4) (hu : u < 3) (hv : v < 3) (hQ : lo_Q q u v a3 a4) (hval : val < 64)
    (hT : lo_vf val u ≠ 3 → lo_vf val v ≠ 3 → post 1) (hF : ¬ (lo_vf val u ≠ 3 ∧ lo_vf val v ≠ 3) → post 0) : wpX_isGround post (R, A, D, sh, ex, a1, a2, a3, a4, a5, a6, a7, a8, a9, a10, a11, a12, a13, a14) (nI (2 ^ q)) (nI val) := by
  show ∃ fu2 : Nat, wX_isGround_2 post (nI (2 ^ q)) (nI val) R A D sh ex a1 a2 a3 a4 a5 a6 a7 a8 a9 a10 a11 a12 a13 a14 fu2 0
  refine pk_loop (σ := Unit) (fun n i _ => wX_isGround_2 post (nI (2 ^ q)) (nI val) R A D sh ex a1 a2 a3 a4 a5 a6 a7 a8 a9 a10 a11 a12 a13 a14 n (nI i)) (fun i _ => ∀ y, y < i → lo_vf val y = 3 → ¬ (u = y ∨ v = y)) 3 0 () (by omega) (fun y hy => absurd hy (by omega)) ?_ ?_
  · exact fun n _ h => pk_le 3 3 (fun _ => hT (fun z => h u hu z (Or.inl rfl)) (fun z => h v hv z (Or.inr rfl))) (fun z => absurd z (by omega))
  · intro n i _ hi h hw
    refine pk_le 3 i (fun z => absurd z (by omega)) (fun _ => lo_free hval hi (fun hf => ?_) (fun hf => ?_))
    · refine br_f (by decide) (lo_aw hu hv hQ hi ?_)
      by_cases c : u = i ∨ v = i
      · rw [lo_S1 hq c, lo_pp q hq]
        refine br_f (lo_p0 q hq) (hF (fun t => ?_))
        rcases c with c | c
        · exact t.1 (by rw [c]; exact hf)
        · exact t.2 (by rw [c]; exact hf)
      · rw [lo_S0 c, lo_za]
        exact br_t rfl (nm_r (nI_1 i) (hw () (lt_s h (fun _ => c))))
    · exact br_t rfl (nm_r (nI_1 i) (hw () (lt_s h (fun z => absurd z hf))))
theorem lo_common {post : Int32 → Prop} {q u v val : Nat} (hq : q < 4) (hu : u < 3) (hv : v < 3) (hQ : lo_Q q u v a3 a4) (hval : val < 64)
    (hn : ¬ (lo_vf val u ≠ 3 ∧ lo_vf val v ≠ 3)) (hT : ∀ x, x < 3 → lo_vf val x = 3 → (u = x ∨ v = x) → post (nI x)) : wpX_commonVariable post (R, A, D, sh, ex, a1, a2, a3, a4, a5, a6, a7, a8, a9, a10, a11, a12, a13, a14) (nI (2 ^ q)) (nI val) := by
  show ∃ fu2 : Nat, wX_commonVariable_2 post (nI (2 ^ q)) (nI val) R A D sh ex a1 a2 a3 a4 a5 a6 a7 a8 a9 a10 a11 a12 a13 a14 fu2 0
  refine pk_loop (σ := Unit) (fun n i _ => wX_commonVariable_2 post (nI (2 ^ q)) (nI val) R A D sh ex a1 a2 a3 a4 a5 a6 a7 a8 a9 a10 a11 a12 a13 a14 n (nI i)) (fun i _ => ∀ y, y < i → lo_vf val y = 3 → ¬ (u = y ∨ v = y)) 3 0 () (by omega) (fun y hy => absurd hy (by omega)) ?_ ?_
  · exact fun n _ h => absurd ⟨fun z => h u hu z (Or.inl rfl), fun z => h v hv z (Or.inr rfl)⟩ hn
  · intro n i _ hi h hw
    refine pk_le 3 i (fun z => absurd z (by omega)) (fun _ => lo_free hval hi (fun hf => ?_) (fun hf => ?_))
    · refine br_f (by decide) (lo_aw hu hv hQ hi ?_)
      by_cases c : u = i ∨ v = i
      · rw [lo_S1 hq c, lo_pp q hq]
        exact br_t rfl (hT i hi hf c)
      · rw [lo_S0 c, lo_za]
        exact br_f (fun z => lo_p0 q hq z.symm) (nm_r (nI_1 i) (hw () (lt_s h (fun _ => c))))
    · exact br_t rfl (nm_r (nI_1 i) (hw () (lt_s h (fun z => absurd z hf))))
theorem lo_groundRow {post : Int32 → Prop} {q u v val : Nat} (hq : q < 4) (hu : u < 3) (hv : v < 3) (hQ : lo_Q q u v a3 a4) (hval : val < 64)
    (hp : post (nI (9 * q + 3 * lo_vf val u + lo_vf val v))) : wpX_groundRow post (R, A, D, sh, ex, a1, a2, a3, a4, a5, a6, a7, a8, a9, a10, a11, a12, a13, a14) (nI q) (nI val) := by
  have t := lo_Q1 hQ hq rfl
  unfold wpX_groundRow
  refine ⟨pk_in q 4 hq, ?_⟩
  rw [nI_clamp (show q < 2 ^ 31 by omega), t.1, t.2]
  refine lo_valueOf hval hu ⟨pk_in q 4 hq, lo_valueOf hval hv ?_⟩
  rw [lo_idE]
  exact hp
end
theorem lo_power {post : Int64 → Prop} {e : Nat} (he : e ≤ 1) (hp : post (lo_pw e)) : wpX_power post () (nI e) := by
  rcases (show e = 0 ∨ e = 1 by omega) with h | h
  · rw [h] at hp ⊢
    exact ⟨1, pk_le 0 0 (fun _ => hp) (fun z => absurd z (by omega))⟩
  · rw [h] at hp ⊢
    exact ⟨2, pk_le 1 0 (fun z => absurd z (by omega)) (fun _ => pk_le 10 0 (fun z => absurd z (by omega)) (fun _ => nm_e (nm_e (pk_le 1 1 (fun _ => hp) (fun z => absurd z (by omega))))))⟩
end
section
/-! evaluation by frames -/
def lo_sh (c : Bool) (z : Int32) : Int64 := cond c z.toInt64 0
def lo_en (c : Bool) : Nat := cond c 1 0
def lo_M (q u v id val : Nat) : Bool := decide (id / 9 = q ∧ (lo_vf val u = 3 ∨ lo_vf val u = id / 3 % 3) ∧ (lo_vf val v = 3 ∨ lo_vf val v = id % 3) ∧ (u = v → id / 3 % 3 = id % 3))
theorem lo_cl {d : Nat} (h : d < 48) : (nI d).toNatClampNeg = d := nI_clamp (by omega)
theorem lo_vfl {val x : Nat} (h : lo_vf val x ≠ 3) : lo_vf val x < 3 := by
  have := lo_vf_lt val x
  omega
theorem lo_Mleaf {q u v id val : Nat} (nu : lo_vf val u ≠ 3) (nv : lo_vf val v ≠ 3) : lo_M q u v id val = decide (9 * q + 3 * lo_vf val u + lo_vf val v = id) := by
  have h1 := lo_vfl nu
  have h2 := lo_vfl nv
  unfold lo_M
  apply decide_eq_decide.mpr
  constructor
  · rintro ⟨a, b, c, _⟩
    omega
  · intro e
    refine ⟨by omega, Or.inr (by omega), Or.inr (by omega), fun t => ?_⟩
    have t2 : lo_vf val u = lo_vf val v := by rw [t]
    have t3 : id / 3 = 3 * q + lo_vf val u := by omega
    have t4 : id % 3 = lo_vf val v := by omega
    omega
section
variable {R A D : Int32} {sh : Int64} {ex : Int32} {a1 a2 a3 a4 a5 a6 a7 a8 a9 a10 a11 a12 : Nat → Int32} {a13 : Nat → Int64} {a14 : Nat → Int32}
theorem lo_enter {post : St2 → Prop} {d : Nat} {p0 p1 : Int32} (hd : d < 48) (H : post (R, A, nI (d + 1), sh, ex, a1, a2, a3, a4, upd a5 d 0, upd a6 d p0, upd a7 d p1, a8, a9, a10, a11, a12, a13, a14)) : wpX_enter post (R, A, nI d, sh, ex, a1, a2, a3, a4, a5, a6, a7, a8, a9, a10, a11, a12, a13, a14) p0 p1 := by
  unfold wpX_enter
  dsimp only
  have hi := pk_in (x := nI d) d 48 hd
  rw [lo_cl hd]
  exact ⟨hi, nm_e ⟨hi, nm_e ⟨hi, nm_e (nm_r (nI_1 d) H)⟩⟩⟩
theorem lo_finish {post : St2 → Prop} {q u v id val d : Nat} {z : Int32} (hq : q < 4) (hu : u < 3) (hv : v < 3) (hQ : lo_Q q u v a3 a4) (hL : lo_L id z a2) (hz : 0 ≤ z) (hval : val < 64)
    (nu : lo_vf val u ≠ 3) (nv : lo_vf val v ≠ 3) (H : post (R, A, nI d, lo_sh (lo_M q u v id val) z, nI (lo_en (lo_M q u v id val)), a1, a2, a3, a4, a5, a6, a7, a8, a9, a10, a11, a12, a13, a14)) : wpX_finishGround post (R, A, nI (d + 1), sh, ex, a1, a2, a3, a4, a5, a6, a7, a8, a9, a10, a11, a12, a13, a14) (nI (2 ^ q)) (nI val) := by
  have h1 := lo_vfl nu
  have h2 := lo_vfl nv
  have hlt : 9 * q + 3 * lo_vf val u + lo_vf val v < 36 := by omega
  show ∃ fu5 : Nat, wX_finishGround_5 post (nI (2 ^ q)) (nI val) R A (nI (d + 1)) sh ex a1 a2 a3 a4 a5 a6 a7 a8 a9 a10 a11 a12 a13 a14 fu5 0 0
  refine pk_loop (fun n i s => wX_finishGround_5 post (nI (2 ^ q)) (nI val) R A (nI (d + 1)) sh ex a1 a2 a3 a4 a5 a6 a7 a8 a9 a10 a11 a12 a13 a14 n s (nI i)) (fun i s => q < i → s = nI q) 4 0 0 (by omega) (fun t => absurd t (by omega)) ?_ ?_
  · intro n s h
    refine pk_le 4 4 (fun _ => ?_) (fun t => absurd t (by omega))
    rw [h hq]
    refine lo_groundRow hq hu hv hQ hval ⟨pk_in _ 36 hlt, nm_r (e' := a2 (9 * q + 3 * lo_vf val u + lo_vf val v)) (by rw [nI_clamp (Nat.lt_trans hlt (by decide))]) ?_⟩
    rw [lo_Mleaf nu nv] at H
    by_cases c : 9 * q + 3 * lo_vf val u + lo_vf val v = id
    · rw [decide_eq_true c] at H
      rw [lo_Ly hL hlt c]
      exact br_t hz (nm_r (nI_pred d) H)
    · rw [decide_eq_false c] at H
      rw [lo_Ln hL hlt c]
      exact br_f (by decide) (nm_r (nI_pred d) H)
  · intro n i s hi h hw
    refine pk_le 4 i (fun t => absurd t (by omega)) (fun _ => ?_)
    by_cases e : i = q
    · exact br_f (fun t => (lo_bit q hq i hi).mp t e) (nm_r (nI_1 i) (hw _ (fun _ => by rw [e])))
    · exact br_t ((lo_bit q hq i hi).mpr e) (nm_r (nI_1 i) (hw _ (fun t => h (by omega))))
theorem lo_begin0 {post : St2 → Prop} {d : Nat} (hd : d < 48) (h6 : a6 d = 0) (H : post (R, A, nI d, 1, 0, a1, a2, a3, a4, a5, a6, a7, a8, a9, a10, a11, a12, vp_updL a13 d 1, upd a14 d 0)) : wpX_begin post (R, A, nI (d + 1), sh, ex, a1, a2, a3, a4, a5, a6, a7, a8, a9, a10, a11, a12, a13, a14) (nI d) := by
  unfold wpX_begin
  have hi := pk_in (x := nI d) d 48 hd
  rw [lo_cl hd]
  exact ⟨hi, nm_r h6 ⟨hi, nm_e ⟨hi, nm_e ⟨hi, nm_e (br_t rfl (nm_r (nI_pred d) H))⟩⟩⟩⟩
theorem lo_beginL {post : St2 → Prop} {q u v id val d : Nat} {z : Int32} (hq : q < 4) (hu : u < 3) (hv : v < 3) (hQ : lo_Q q u v a3 a4) (hL : lo_L id z a2) (hz : 0 ≤ z) (hval : val < 64)
    (nu : lo_vf val u ≠ 3) (nv : lo_vf val v ≠ 3) (hd : d < 48) (h6 : a6 d = nI (2 ^ q)) (h7 : a7 d = nI val)
    (H : post (R, A, nI d, lo_sh (lo_M q u v id val) z, nI (lo_en (lo_M q u v id val)), a1, a2, a3, a4, a5, a6, a7, a8, a9, a10, a11, a12, vp_updL a13 d 1, upd a14 d 0)) : wpX_begin post (R, A, nI (d + 1), sh, ex, a1, a2, a3, a4, a5, a6, a7, a8, a9, a10, a11, a12, a13, a14) (nI d) := by
  unfold wpX_begin
  have hi := pk_in (x := nI d) d 48 hd
  rw [lo_cl hd]
  refine ⟨hi, nm_r h6 ⟨hi, nm_r h7 ⟨hi, nm_e ⟨hi, nm_e (br_f (lo_p0 q hq) (lo_comp hq hu hv hQ hval (br_t rfl ?_)))⟩⟩⟩⟩
  exact lo_ground hq hu hv hQ hval (fun _ _ => br_f (by decide) (lo_finish hq hu hv hQ hL hz hval nu nv H)) (fun t => absurd ⟨nu, nv⟩ t)
theorem lo_beginP {post : St2 → Prop} {q u v val d : Nat} (hq : q < 4) (hu : u < 3) (hv : v < 3) (hQ : lo_Q q u v a3 a4) (hval : val < 64)
    (hn : ¬ (lo_vf val u ≠ 3 ∧ lo_vf val v ≠ 3)) (hd : d + 1 < 48) (h6 : a6 d = nI (2 ^ q)) (h7 : a7 d = nI val)
    (H : ∀ x, x < 3 → lo_vf val x = 3 → (u = x ∨ v = x) → post (R, A, nI (d + 1 + 1), sh, ex, a1, a2, a3, a4, upd (upd a5 d 2) (d + 1) 0, upd a6 (d + 1) (nI (2 ^ q)), upd a7 (d + 1) (nI (lo_set val x 0)), a8, upd a9 d (nI x), upd a10 d 0, a11, a12, vp_updL a13 d 1, upd a14 d 0)) : wpX_begin post (R, A, nI (d + 1), sh, ex, a1, a2, a3, a4, a5, a6, a7, a8, a9, a10, a11, a12, a13, a14) (nI d) := by
  unfold wpX_begin
  have hi := pk_in (x := nI d) d 48 (by omega)
  rw [lo_cl (show d < 48 by omega)]
  refine ⟨hi, nm_r h6 ⟨hi, nm_r h7 ⟨hi, nm_e ⟨hi, nm_e (br_f (lo_p0 q hq) (lo_comp hq hu hv hQ hval (br_t rfl ?_)))⟩⟩⟩⟩
  refine lo_ground hq hu hv hQ hval (fun s t => absurd ⟨s, t⟩ hn) (fun _ => br_t rfl (lo_common hq hu hv hQ hval hn (fun x hx hf hc => br_f (nI_pos (by omega)) ⟨hi, nm_e ⟨hi, nm_e ⟨hi, nm_e ?_⟩⟩⟩)))
  rw [lo_clrE val hval x hx]
  exact lo_enter hd (H x hx hf hc)
theorem lo_goP {post : St2 → Prop} {q val d x t e e1 : Nat} {g : Int64} (hval : val < 64) (hx : x < 3) (hd : d + 1 < 48) (ht : t < 3) (he1 : e1 ≤ 1) (he : e + e1 ≤ 1)
    (h6 : a6 d = nI (2 ^ q)) (h7 : a7 d = nI val) (h9 : a9 d = nI x) (h10 : a10 d = nI t) (h13 : a13 d = g) (h14 : a14 d = nI e)
    (H1 : t + 1 < 3 → post (R, A, nI (d + 1 + 1), sh, nI e1, a1, a2, a3, a4, upd a5 (d + 1) 0, upd a6 (d + 1) (nI (2 ^ q)), upd a7 (d + 1) (nI (lo_set val x (t + 1))), a8, a9, upd a10 d (nI (t + 1)), a11, a12, vp_updL a13 d (g * (lo_pw e1 - sh)), upd a14 d (nI (e + e1))))
    (H2 : t + 1 = 3 → post (R, A, nI d, lo_pw (e + e1) - g * (lo_pw e1 - sh), nI (e + e1), a1, a2, a3, a4, a5, a6, a7, a8, a9, upd a10 d (nI (t + 1)), a11, a12, vp_updL a13 d (g * (lo_pw e1 - sh)), upd a14 d (nI (e + e1)))) :
    wpX_goOnProject post (R, A, nI (d + 1), sh, nI e1, a1, a2, a3, a4, a5, a6, a7, a8, a9, a10, a11, a12, a13, a14) (nI d) := by
  unfold wpX_goOnProject
  have hi := pk_in (x := nI d) d 48 (by omega)
  rw [lo_cl (show d < 48 by omega)]
  refine ⟨hi, lo_power he1 ⟨hi, nm_r (e' := vp_updL a13 d (g * (lo_pw e1 - sh))) (by rw [h13]) ⟨hi, ⟨hi, nm_r (e' := upd a14 d (nI (e + e1))) (by rw [h14, nI_add]) ⟨hi, ⟨hi, nm_r (e' := upd a10 d (nI (t + 1))) (by rw [h10, nI_1]) ⟨hi, nm_r h9 ⟨hi, ?_⟩⟩⟩⟩⟩⟩⟩⟩
  rw [pk_us (f := a10), pk_us (f := a14), pk_uLs (f := a13)]
  refine pk_le 3 (t + 1) (fun s => ⟨hi, lo_power he ⟨hi, ⟨hi, ?_⟩⟩⟩) (fun s => ⟨hi, hi, hi, ?_⟩)
  · exact nm_r (nI_pred d) (H2 (by omega))
  · rw [h6, h7, lo_setE val hval x hx (t + 1) (by omega)]
    exact lo_enter hd (H1 (by omega))
theorem lo_stP {post : Int64 → St2 → Prop} {n x2 q val d x t e e1 : Nat} {g : Int64} (hx2 : x2 < 100000) (hval : val < 64) (hx : x < 3) (hd : d + 1 < 48) (ht : t < 3) (he1 : e1 ≤ 1) (he : e + e1 ≤ 1)
    (h5 : a5 d = 2) (h6 : a6 d = nI (2 ^ q)) (h7 : a7 d = nI val) (h9 : a9 d = nI x) (h10 : a10 d = nI t) (h13 : a13 d = g) (h14 : a14 d = nI e)
    (H1 : t + 1 < 3 → wX_evaluateAll_44 post n (nI (x2 + 1)) R A (nI (d + 1 + 1)) sh (nI e1) a1 a2 a3 a4 (upd a5 (d + 1) 0) (upd a6 (d + 1) (nI (2 ^ q))) (upd a7 (d + 1) (nI (lo_set val x (t + 1)))) a8 a9 (upd a10 d (nI (t + 1))) a11 a12 (vp_updL a13 d (g * (lo_pw e1 - sh))) (upd a14 d (nI (e + e1))))
    (H2 : t + 1 = 3 → wX_evaluateAll_44 post n (nI (x2 + 1)) R A (nI d) (lo_pw (e + e1) - g * (lo_pw e1 - sh)) (nI (e + e1)) a1 a2 a3 a4 a5 a6 a7 a8 a9 (upd a10 d (nI (t + 1))) a11 a12 (vp_updL a13 d (g * (lo_pw e1 - sh))) (upd a14 d (nI (e + e1)))) :
    wX_evaluateAll_44 post (n + 1) (nI x2) R A (nI (d + 1)) sh (nI e1) a1 a2 a3 a4 a5 a6 a7 a8 a9 a10 a11 a12 a13 a14 := by
  have hi := pk_in (x := nI d) d 48 (by omega)
  have hc := lo_cl (show d < 48 by omega)
  refine pk_le 100000 x2 (fun s => absurd s (by omega)) (fun _ => pk_le (d + 1) 0 (fun s => absurd s (by omega)) (fun _ => nm_r (nI_pred d) ⟨hi, ?_⟩))
  rw [hc, h5]
  refine br_f (by decide) ⟨hi, br_f (by decide) ⟨hi, br_t rfl ?_⟩⟩
  exact lo_goP hval hx hd ht he1 he h6 h7 h9 h10 h13 h14 (fun s => nm_r (nI_1 x2) (H1 s)) (fun s => nm_r (nI_1 x2) (H2 s))
end
/-- a fresh frame at depth d: after k steps it is left, with this share and exponent, and what lies below it is as it was -/
def lo_C (post : Int64 → St2 → Prop) (R A : Int32) (a1 a2 a3 a4 : Nat → Int32) (q val : Nat) (s : Int64) (e : Int32) (k d : Nat) : Prop :=
  ∀ (n x2 : Nat) (sh : Int64) (ex : Int32) (a5 a6 a7 a8 a9 a10 a11 a12 : Nat → Int32) (a13 : Nat → Int64) (a14 : Nat → Int32),
    x2 + k ≤ 100000 → a5 d = 0 → a6 d = nI (2 ^ q) → a7 d = nI val →
    (∀ (b5 b6 b7 b8 b9 b10 b11 b12 : Nat → Int32) (b13 : Nat → Int64) (b14 : Nat → Int32),
      (∀ j, j < d → b5 j = a5 j ∧ b6 j = a6 j ∧ b7 j = a7 j ∧ b9 j = a9 j ∧ b10 j = a10 j ∧ b13 j = a13 j ∧ b14 j = a14 j) →
      wX_evaluateAll_44 post n (nI (x2 + k)) R A (nI d) s e a1 a2 a3 a4 b5 b6 b7 b8 b9 b10 b11 b12 b13 b14) →
    wX_evaluateAll_44 post (n + k) (nI x2) R A (nI (d + 1)) sh ex a1 a2 a3 a4 a5 a6 a7 a8 a9 a10 a11 a12 a13 a14
theorem lo_leaf {post : Int64 → St2 → Prop} {R A : Int32} {a1 a2 a3 a4 : Nat → Int32} {q u v id val d : Nat} {z : Int32} (hq : q < 4) (hu : u < 3) (hv : v < 3) (hQ : lo_Q q u v a3 a4) (hL : lo_L id z a2) (hz : 0 ≤ z) (hval : val < 64)
    (nu : lo_vf val u ≠ 3) (nv : lo_vf val v ≠ 3) (hd : d < 48) : lo_C post R A a1 a2 a3 a4 q val (lo_sh (lo_M q u v id val) z) (nI (lo_en (lo_M q u v id val))) 1 d := by
  intro n x2 sh ex a5 a6 a7 a8 a9 a10 a11 a12 a13 a14 hx2 h5 h6 h7 H
  have hi := pk_in (x := nI d) d 48 hd
  have hc := lo_cl hd
  refine pk_le 100000 x2 (fun s => absurd s (by omega)) (fun _ => pk_le (d + 1) 0 (fun s => absurd s (by omega)) (fun _ => nm_r (nI_pred d) ⟨hi, ?_⟩))
  rw [hc, h5]
  refine br_t rfl (lo_beginL hq hu hv hQ hL hz hval nu nv hd h6 h7 (nm_r (nI_1 x2) (H _ _ _ _ _ _ _ _ _ _ (fun j hj => ?_))))
  refine ⟨rfl, rfl, rfl, rfl, rfl, pk_uLn (by omega), pk_un (by omega)⟩
theorem lo_Mset {q u v id val x t : Nat} (hu : u < 3) (hv : v < 3) (hval : val < 64) (hx : x < 3) (hf : lo_vf val x = 3) (hc : u = x ∨ v = x) (ht : t < 3) :
    lo_M q u v id (lo_set val x t) = (lo_M q u v id val && decide (t = if u = x then id / 3 % 3 else id % 3)) := by
  unfold lo_M
  rw [← Bool.decide_and]
  apply decide_eq_decide.mpr
  have hs := lo_set_s val hval x hx t ht
  by_cases c1 : u = x
  · rw [if_pos c1]
    by_cases c2 : v = x
    · rw [c1, c2, hs, hf]
      constructor
      · rintro ⟨e1, e2, e3, e4⟩
        exact ⟨⟨e1, Or.inl rfl, Or.inl rfl, e4⟩, by omega⟩
      · rintro ⟨⟨e1, _, _, e4⟩, e5⟩
        have e6 := e4 rfl
        exact ⟨e1, Or.inr e5, Or.inr (by omega), e4⟩
    · rw [lo_set_n val hval x hx t ht v hv c2, c1, hs, hf]
      constructor
      · rintro ⟨e1, e2, e3, e4⟩
        exact ⟨⟨e1, Or.inl rfl, e3, e4⟩, by omega⟩
      · rintro ⟨⟨e1, _, e3, e4⟩, e5⟩
        exact ⟨e1, Or.inr e5, e3, e4⟩
  · rw [if_neg c1]
    have c2 : v = x := hc.resolve_left c1
    rw [lo_set_n val hval x hx t ht u hu c1, c2, hs, hf]
    constructor
    · rintro ⟨e1, e2, e3, e4⟩
      exact ⟨⟨e1, e2, Or.inl rfl, e4⟩, by omega⟩
    · rintro ⟨⟨e1, e2, _, e4⟩, e5⟩
      exact ⟨e1, e2, Or.inr e5, e4⟩
theorem lo_M3 {q u v id val x : Nat} (hu : u < 3) (hv : v < 3) (hval : val < 64) (hx : x < 3) (hf : lo_vf val x = 3) (hc : u = x ∨ v = x) :
    ∃ k, k < 3 ∧ ∀ t, t < 3 → lo_M q u v id (lo_set val x t) = (lo_M q u v id val && decide (t = k)) := by
  refine ⟨if u = x then id / 3 % 3 else id % 3, ?_, fun t ht => lo_Mset hu hv hval hx hf hc ht⟩
  by_cases c : u = x
  · rw [if_pos c]
    omega
  · rw [if_neg c]
    omega
theorem lo_ar {k : Nat} (hk : k < 3) (c : Bool) (z : Int32) :
    lo_en (c && decide (0 = k)) + lo_en (c && decide (1 = k)) ≤ 1 ∧ lo_en (c && decide (0 = k)) + lo_en (c && decide (1 = k)) + lo_en (c && decide (2 = k)) = lo_en c ∧
    lo_pw (lo_en c) - 1 * (lo_pw (lo_en (c && decide (0 = k))) - lo_sh (c && decide (0 = k)) z) * (lo_pw (lo_en (c && decide (1 = k))) - lo_sh (c && decide (1 = k)) z) * (lo_pw (lo_en (c && decide (2 = k))) - lo_sh (c && decide (2 = k)) z) = lo_sh c z := by
  cases c
  · refine ⟨?_, ?_, ?_⟩
    · show lo_en false + lo_en false ≤ 1
      decide
    · show lo_en false + lo_en false + lo_en false = lo_en false
      decide
    · show (1 : Int64) - 1 * (1 - 0) * (1 - 0) * (1 - 0) = 0
      decide
  · rcases (show k = 0 ∨ k = 1 ∨ k = 2 by omega) with e | e | e
    · subst e
      refine ⟨by decide, by decide, ?_⟩
      show (10 : Int64) - 1 * (10 - z.toInt64) * (1 - 0) * (1 - 0) = z.toInt64
      grind
    · subst e
      refine ⟨by decide, by decide, ?_⟩
      show (10 : Int64) - 1 * (1 - 0) * (10 - z.toInt64) * (1 - 0) = z.toInt64
      grind
    · subst e
      refine ⟨by decide, by decide, ?_⟩
      show (10 : Int64) - 1 * (1 - 0) * (1 - 0) * (10 - z.toInt64) = z.toInt64
      grind
theorem lo_en1 (c : Bool) : lo_en c ≤ 1 := by cases c <;> decide
theorem lo_proj {post : Int64 → St2 → Prop} {R A : Int32} {a1 a2 a3 a4 : Nat → Int32} {q u v id val d k : Nat} {z : Int32} (hq : q < 4) (hu : u < 3) (hv : v < 3) (hQ : lo_Q q u v a3 a4) (hval : val < 64)
    (hn : ¬ (lo_vf val u ≠ 3 ∧ lo_vf val v ≠ 3)) (hd : d + 1 < 48)
    (hs : ∀ x, x < 3 → lo_vf val x = 3 → (u = x ∨ v = x) → ∀ t, t < 3 → lo_C post R A a1 a2 a3 a4 q (lo_set val x t) (lo_sh (lo_M q u v id (lo_set val x t)) z) (nI (lo_en (lo_M q u v id (lo_set val x t)))) k (d + 1)) :
    lo_C post R A a1 a2 a3 a4 q val (lo_sh (lo_M q u v id val) z) (nI (lo_en (lo_M q u v id val))) (3 * k + 4) d := by
  intro n x2 sh ex a5 a6 a7 a8 a9 a10 a11 a12 a13 a14 hx2 h5 h6 h7 H
  have hi := pk_in (x := nI d) d 48 (by omega)
  have hc := lo_cl (show d < 48 by omega)
  rw [show n + (3 * k + 4) = n + 1 + k + 1 + k + 1 + k + 1 by omega]
  refine pk_le 100000 x2 (fun s => absurd s (by omega)) (fun _ => pk_le (d + 1) 0 (fun s => absurd s (by omega)) (fun _ => nm_r (nI_pred d) ⟨hi, ?_⟩))
  rw [hc, h5]
  refine br_t rfl (lo_beginP hq hu hv hQ hval hn hd h6 h7 (fun x hx hf hcx => nm_r (nI_1 x2) ?_))
  obtain ⟨kk, hkk, hM⟩ := lo_M3 (q := q) (id := id) hu hv hval hx hf hcx
  obtain ⟨r1, r2, r3⟩ := lo_ar hkk (lo_M q u v id val) z
  have s0 := hs x hx hf hcx 0 (by omega)
  have s1 := hs x hx hf hcx 1 (by omega)
  have s2 := hs x hx hf hcx 2 (by omega)
  rw [hM 0 (by omega)] at s0
  rw [hM 1 (by omega)] at s1
  rw [hM 2 (by omega)] at s2
  refine s0 _ _ _ _ _ _ _ _ _ _ _ _ _ _ (by omega) pk_us pk_us pk_us (fun b5 b6 b7 b8 b9 b10 b11 b12 b13 b14 hb => ?_)
  obtain ⟨g5, g6, g7, g9, g10, g13, g14⟩ := hb d (by omega)
  rw [pk_un (by omega), pk_us] at g5
  rw [pk_un (by omega), h6] at g6
  rw [pk_un (by omega), h7] at g7
  rw [pk_us] at g9 g10 g14
  rw [pk_uLs] at g13
  refine lo_stP (t := 0) (e := 0) (by omega) hval hx hd (by omega) (lo_en1 _) (by have := lo_en1 (lo_M q u v id val && decide (0 = kk)); omega) g5 g6 g7 g9 g10 g13 g14 (fun _ => ?_) (fun s => absurd s (by omega))
  refine s1 _ _ _ _ _ _ _ _ _ _ _ _ _ _ (by omega) pk_us pk_us pk_us (fun c5 c6 c7 c8 c9 c10 c11 c12 c13 c14 hb1 => ?_)
  obtain ⟨k5, k6, k7, k9, k10, k13, k14⟩ := hb1 d (by omega)
  rw [pk_un (by omega), g5] at k5
  rw [pk_un (by omega), g6] at k6
  rw [pk_un (by omega), g7] at k7
  rw [g9] at k9
  rw [pk_us] at k10 k14
  rw [pk_uLs] at k13
  refine lo_stP (t := 0 + 1) (by omega) hval hx hd (by omega) (lo_en1 _) (by omega) k5 k6 k7 k9 k10 k13 k14 (fun _ => ?_) (fun s => absurd s (by omega))
  refine s2 _ _ _ _ _ _ _ _ _ _ _ _ _ _ (by omega) pk_us pk_us pk_us (fun d5 d6 d7 d8 d9 d10 d11 d12 d13 d14 hb2 => ?_)
  obtain ⟨l5, l6, l7, l9, l10, l13, l14⟩ := hb2 d (by omega)
  rw [pk_un (by omega), k5] at l5
  rw [pk_un (by omega), k6] at l6
  rw [pk_un (by omega), k7] at l7
  rw [k9] at l9
  rw [pk_us] at l10 l14
  rw [pk_uLs] at l13
  have hle := lo_en1 (lo_M q u v id val)
  refine lo_stP (t := 0 + 1 + 1) (by omega) hval hx hd (by omega) (lo_en1 _) (by omega) l5 l6 l7 l9 l10 l13 l14 (fun s => absurd s (by omega)) (fun _ => ?_)
  rw [Nat.zero_add, r2, r3, show x2 + 1 + k + 1 + k + 1 + k + 1 = x2 + (3 * k + 4) by omega]
  refine H _ _ _ _ _ _ _ _ _ _ (fun j hj => ?_)
  have y0 := hb j (by omega)
  have y1 := hb1 j (by omega)
  have y2 := hb2 j (by omega)
  obtain ⟨m5, m6, m7, m9, m10, m13, m14⟩ := y0
  obtain ⟨n5, n6, n7, n9, n10, n13, n14⟩ := y1
  obtain ⟨o5, o6, o7, o9, o10, o13, o14⟩ := y2
  have jd : j ≠ d := by omega
  have jd1 : j ≠ d + 1 := by omega
  rw [pk_un jd1] at o5 o6 o7 n5 n6 n7 m6 m7
  rw [pk_un jd1, pk_un jd] at m5
  rw [pk_un jd] at o10 o14 n10 n14 m9 m10 m14
  rw [pk_uLn jd] at o13 n13 m13
  refine ⟨by rw [o5, n5, m5], by rw [o6, n6, m6], by rw [o7, n7, m7], by rw [o9, n9, m9], ?_, ?_, ?_⟩
  · rw [pk_un jd, o10, n10, m10]
  · rw [pk_uLn jd, o13, n13, m13]
  · rw [pk_un jd, o14, n14, m14]
def lo_K : Nat → Nat
  | 0 => 1
  | m + 1 => 3 * lo_K m + 4
def lo_mu (u v val : Nat) : Nat := (if lo_vf val u = 3 then 1 else 0) + (if u ≠ v ∧ lo_vf val v = 3 then 1 else 0)
theorem lo_mu_set {u v val x t : Nat} (hu : u < 3) (hv : v < 3) (hval : val < 64) (hx : x < 3) (hf : lo_vf val x = 3) (hc : u = x ∨ v = x) (ht : t < 3) : lo_mu u v val = lo_mu u v (lo_set val x t) + 1 := by
  have hs := lo_set_s val hval x hx t ht
  have t3 : ¬ t = 3 := by omega
  unfold lo_mu
  by_cases c1 : u = x
  · by_cases c2 : v = x
    · have e : u = v := by omega
      rw [c1, c2, hs, hf, if_pos rfl, if_neg t3, if_neg (fun z => z.1 rfl), if_neg (fun z => z.1 rfl)]
    · rw [lo_set_n val hval x hx t ht v hv c2, c1, hs, hf, if_pos rfl, if_neg t3]
      omega
  · have c2 : v = x := hc.resolve_left c1
    rw [lo_set_n val hval x hx t ht u hu c1, c2, hs, hf, if_pos (show u ≠ x ∧ 3 = 3 from ⟨c1, rfl⟩), if_neg (show ¬ (u ≠ x ∧ t = 3) from fun z => t3 z.2)]
    all_goals omega
theorem lo_frame {post : Int64 → St2 → Prop} {R A : Int32} {a1 a2 a3 a4 : Nat → Int32} {q u v id : Nat} {z : Int32} (hq : q < 4) (hu : u < 3) (hv : v < 3) (hQ : lo_Q q u v a3 a4) (hL : lo_L id z a2) (hz : 0 ≤ z) :
    ∀ m val d, val < 64 → lo_mu u v val = m → d + m < 48 → lo_C post R A a1 a2 a3 a4 q val (lo_sh (lo_M q u v id val) z) (nI (lo_en (lo_M q u v id val))) (lo_K m) d := by
  intro m
  induction m with
  | zero =>
    intro val d hval hm hd
    unfold lo_mu at hm
    have nu : lo_vf val u ≠ 3 := by
      intro e
      rw [if_pos e] at hm
      omega
    have nv : lo_vf val v ≠ 3 := by
      intro e
      by_cases c : u = v
      · exact nu (by rw [c]; exact e)
      · rw [if_pos (show u ≠ v ∧ lo_vf val v = 3 from ⟨c, e⟩)] at hm
        omega
    exact lo_leaf hq hu hv hQ hL hz hval nu nv hd
  | succ m ih =>
    intro val d hval hm hd
    have hn : ¬ (lo_vf val u ≠ 3 ∧ lo_vf val v ≠ 3) := by
      intro c
      unfold lo_mu at hm
      rw [if_neg c.1, if_neg (fun t => c.2 t.2)] at hm
      omega
    refine lo_proj hq hu hv hQ hval hn (by omega) (fun x hx hf hc t ht => ih (lo_set val x t) (d + 1) (lo_set_lt val hval x hx t ht) ?_ (by omega))
    have := lo_mu_set hu hv hval hx hf hc ht
    omega
def lo_rr (id : Nat) : Nat := if id < 36 then 1 else 0
/-- what evaluateAll answers -/
def lo_r (q u v id : Nat) (z : Int32) : Int64 := if q < 4 then lo_sh (lo_M q u v id 63) z else lo_pw (lo_rr id)
theorem lo_Mid {q u v id val : Nat} (hq : q < 4) (h : lo_M q u v id val = true) : id < 36 := by
  unfold lo_M at h
  have t := of_decide_eq_true h
  omega
section
variable {post : Int64 → St2 → Prop} {R A D : Int32} {sh : Int64} {ex : Int32} {a1 a2 a3 a4 a5 a6 a7 a8 a9 a10 a11 a12 : Nat → Int32} {a13 : Nat → Int64} {a14 : Nat → Int32}
theorem lo_fin {n x2 rr e : Nat} (hx2 : x2 < 100000) (he : e ≤ rr) (hr : rr ≤ 1) (H : post (sh * lo_pw (rr - e)) (nI rr, A, nI 0, sh, nI e, a1, a2, a3, a4, a5, a6, a7, a8, a9, a10, a11, a12, a13, a14)) : wX_evaluateAll_44 post (n + 1) (nI x2) (nI rr) A (nI 0) sh (nI e) a1 a2 a3 a4 a5 a6 a7 a8 a9 a10 a11 a12 a13 a14 := by
  refine pk_le 100000 x2 (fun s => absurd s (by omega)) (fun _ => pk_le 0 0 (fun _ => ?_) (fun s => absurd s (by omega)))
  unfold wX_evaluateAll_128
  rw [pk_sub he]
  exact lo_power (by omega) H
theorem lo_eval {q u v id : Nat} {z : Int32} (hq : q ≤ 4) (hu : u < 3) (hv : v < 3) (hQ : lo_Q q u v a3 a4) (hL : lo_L id z a2) (hz : 0 ≤ z)
    (H : ∀ (D : Int32) (sh : Int64) (ex : Int32) (a5 a6 a7 a8 a9 a10 a11 a12 : Nat → Int32) (a13 : Nat → Int64) (a14 : Nat → Int32), post (lo_r q u v id z) (nI (lo_rr id), A, D, sh, ex, a1, a2, a3, a4, a5, a6, a7, a8, a9, a10, a11, a12, a13, a14)) : wpX_evaluateAll post (nI (lo_rr id), A, D, sh, ex, a1, a2, a3, a4, a5, a6, a7, a8, a9, a10, a11, a12, a13, a14) := by
  show ∃ fu4 : Nat, wX_evaluateAll_4 post (nI (lo_rr id)) A D sh ex a1 a2 a3 a4 a5 a6 a7 a8 a9 a10 a11 a12 a13 a14 fu4 0 0
  have hr1 : lo_rr id ≤ 1 := by unfold lo_rr; split <;> omega
  refine pk_loop (fun n i s => wX_evaluateAll_4 post (nI (lo_rr id)) A D sh ex a1 a2 a3 a4 a5 a6 a7 a8 a9 a10 a11 a12 a13 a14 n s (nI i)) (fun i s => s = if q < i then nI (2 ^ q) else 0) 4 0 0 (by omega) (by rw [if_neg (by omega)]) ?_ ?_
  · intro n s h
    refine pk_le 4 4 (fun _ => lo_enter (d := 0) (by omega) ?_) (fun t => absurd t (by omega))
    by_cases c : q < 4
    · rw [if_pos c] at h
      rw [h]
      have hmu : lo_mu u v 63 ≤ 2 := by
        unfold lo_mu
        split <;> split <;> omega
      have hK : lo_K (lo_mu u v 63) ≤ 25 := by
        rcases (show lo_mu u v 63 = 0 ∨ lo_mu u v 63 = 1 ∨ lo_mu u v 63 = 2 by omega) with e | e | e <;> rw [e] <;> decide
      refine ⟨0 + 1 + lo_K (lo_mu u v 63), lo_frame c hu hv hQ hL hz (lo_mu u v 63) 63 0 (by omega) rfl (by omega) (0 + 1) 0 _ _ _ _ _ _ _ _ _ _ _ _ (by omega) pk_us pk_us pk_us (fun b5 b6 b7 b8 b9 b10 b11 b12 b13 b14 _ => ?_)⟩
      have hh := H (nI 0) (lo_sh (lo_M q u v id 63) z) (nI (lo_en (lo_M q u v id 63))) b5 b6 b7 b8 b9 b10 b11 b12 b13 b14
      unfold lo_r at hh
      rw [if_pos c] at hh
      cases hM : lo_M q u v id 63 with
      | false =>
        rw [hM] at hh
        refine lo_fin (by omega) (Nat.zero_le _) hr1 ?_
        rw [show lo_sh false z * lo_pw (lo_rr id - lo_en false) = lo_sh false z from Int64.zero_mul]
        exact hh
      | true =>
        rw [hM] at hh
        have hid := lo_Mid c hM
        have hrr : lo_rr id = 1 := if_pos hid
        refine lo_fin (by omega) (by rw [hrr]; exact Nat.le_refl 1) hr1 ?_
        rw [hrr] at hh ⊢
        rw [show lo_sh true z * lo_pw (1 - lo_en true) = lo_sh true z from Int64.mul_one _]
        exact hh
    · rw [if_neg c] at h
      rw [h]
      refine ⟨0 + 1 + 1, ?_⟩
      refine pk_le 100000 0 (fun s => absurd s (by omega)) (fun _ => pk_le (0 + 1) 0 (fun s => absurd s (by omega)) (fun _ => nm_r (nI_pred 0) ⟨pk_in 0 48 (by omega), br_t pk_us (lo_begin0 (d := 0) (by omega) pk_us (nm_r (nI_1 0) ?_))⟩))
      refine lo_fin (e := 0) (by omega) (Nat.zero_le _) hr1 ?_
      have hh := H (nI 0) 1 (nI 0) (upd a5 0 0) (upd a6 0 0) (upd a7 0 63) a8 a9 a10 a11 a12 (vp_updL a13 0 1) (upd a14 0 0)
      unfold lo_r at hh
      rw [if_neg c] at hh
      rw [show (1 : Int64) * lo_pw (lo_rr id - 0) = lo_pw (lo_rr id) from Int64.one_mul _]
      exact hh
  · intro n i s hi h hw
    refine pk_le 4 i (fun t => absurd t (by omega)) (fun _ => ⟨pk_in i 4 hi, ?_⟩)
    rw [nI_clamp (show i < 2 ^ 31 by omega)]
    by_cases e : i = q
    · rw [(lo_Q1 hQ hi e).1]
      refine br_f (nI_pos (by omega)) (nm_r (e' := nI (2 ^ i)) ?_ (nm_r (nI_1 i) (hw _ ?_)))
      · rw [h, if_neg (by omega)]
        exact lo_sh1 i hi
      · rw [if_pos (by omega), e]
    · rw [(lo_Q0 hQ hi e).1]
      refine br_t (by decide) (nm_r (nI_1 i) (hw _ ?_))
      rw [h]
      by_cases c2 : q < i
      · rw [if_pos c2, if_pos (by omega)]
      · rw [if_neg c2, if_neg (by omega)]
end
end
section
/-! weight, worlds, the heaviest world -/
theorem lo_fill {f s : Nat → Int32} {i : Nat} {x : Int32} (h : ∀ j, j < i → s j = f j) (hx : x = f i) : ∀ j, j < i + 1 → upd s i x j = f j := by
  intro j hj
  by_cases e : j = i
  · rw [e, pk_us, hx]
  · rw [pk_un e]
    exact h j (by omega)
theorem lo_Lc {id : Nat} {z : Int32} {f g : Nat → Int32} (h : ∀ i, i < 36 → g i = f i) (hL : lo_L id z f) : lo_L id z g := fun i hi => by
  rw [h i hi]
  exact hL i hi
theorem lo_Lu {id : Nat} {z y : Int32} {f : Nat → Int32} (hL : lo_L id z f) : lo_L id y (upd f id y) := fun i hi => by
  by_cases e : i = id
  · rw [e, pk_us, if_pos rfl]
  · rw [pk_un e, if_neg e, lo_Ln hL hi e]
def lo_wd (q u v id : Nat) : Int32 := if q < 4 then cond (lo_M q u v id 63) 1 0 else if id < 36 then 2 else 1
theorem lo_wdE {q u v id : Nat} : ((lo_r q u v id 5) / (if id < 36 then 5 else 1)).toInt32 = lo_wd q u v id := by
  unfold lo_r lo_wd lo_rr
  by_cases c : q < 4
  · rw [if_pos c, if_pos c]
    cases hM : lo_M q u v id 63 with
    | false =>
      by_cases d : id < 36
      · rw [if_pos d]
        decide
      · rw [if_neg d]
        decide
    | true =>
      rw [if_pos (lo_Mid c hM)]
      decide
  · rw [if_neg c, if_neg c]
    by_cases d : id < 36
    · rw [if_pos d, if_pos d, if_pos d]
      decide
    · rw [if_neg d, if_neg d, if_neg d]
      decide
section
variable {R A D : Int32} {sh : Int64} {ex : Int32} {a1 a2 a3 a4 a5 a6 a7 a8 a9 a10 a11 a12 : Nat → Int32} {a13 : Nat → Int64} {a14 : Nat → Int32}
theorem lo_take {post : St2 → Prop} (H : ∀ b2, (∀ i, i < 36 → b2 i = a1 i) → post (R, A, D, sh, ex, a1, b2, a3, a4, a5, a6, a7, a8, a9, a10, a11, a12, a13, a14)) : wpX_takeListed post (R, A, D, sh, ex, a1, a2, a3, a4, a5, a6, a7, a8, a9, a10, a11, a12, a13, a14) := by
  show ∃ fu2 : Nat, wX_takeListed_2 post R A D sh ex fu2 0 a1 a2 a3 a4 a5 a6 a7 a8 a9 a10 a11 a12 a13 a14
  refine pk_loop (fun n i s => wX_takeListed_2 post R A D sh ex n (nI i) a1 s a3 a4 a5 a6 a7 a8 a9 a10 a11 a12 a13 a14) (fun i s => ∀ j, j < i → s j = a1 j) 36 0 a2 (by omega) (fun j hj => absurd hj (by omega)) ?_ ?_
  · exact fun n s h => pk_le 36 36 (fun _ => H s h) (fun t => absurd t (by omega))
  · intro n i s hi h hw
    refine pk_le 36 i (fun t => absurd t (by omega)) (fun _ => ⟨pk_in i 36 hi, pk_in i 36 hi, ?_⟩)
    rw [nI_clamp (show i < 2 ^ 31 by omega)]
    exact nm_e (nm_r (nI_1 i) (hw _ (lo_fill h rfl)))
theorem lo_weight {post : Int64 → St2 → Prop} {q u v id w : Nat} (hq : q ≤ 4) (hu : u < 3) (hv : v < 3) (hw : w ≤ 10) (hQ : lo_Q q u v a3 a4) (hL : lo_L id (nI w) a1)
    (H : ∀ (D : Int32) (sh : Int64) (ex : Int32) (a2 a5 a6 a7 a8 a9 a10 a11 a12 : Nat → Int32) (a13 : Nat → Int64) (a14 : Nat → Int32), post (lo_r q u v id (nI w)) (nI (lo_rr id), A, D, sh, ex, a1, a2, a3, a4, a5, a6, a7, a8, a9, a10, a11, a12, a13, a14)) : wpX_weight post (nI (lo_rr id), A, D, sh, ex, a1, a2, a3, a4, a5, a6, a7, a8, a9, a10, a11, a12, a13, a14) := by
  unfold wpX_weight
  refine lo_take (fun b2 hb => ?_)
  exact lo_eval hq hu hv hQ (lo_Lc hb hL) (nI_pos' (by omega)) (fun D sh ex a5 a6 a7 a8 a9 a10 a11 a12 a13 a14 => H D sh ex b2 a5 a6 a7 a8 a9 a10 a11 a12 a13 a14)
theorem lo_w29 {post : Int32 → St2 → Prop} {J : Int64 → Int32 → (Nat → Int32) → (Nat → Int32) → (Nat → Int32) → (Nat → Int32) → (Nat → Int32) → (Nat → Int32) → (Nat → Int32) → (Nat → Int32) → (Nat → Int32) → (Nat → Int32) → (Nat → Int32) → (Nat → Int32) → (Nat → Int64) → (Nat → Int32) → Prop} {x1 : Int64} {i : Nat} {z0 : Int32} (hi : i < 36)
    (H1 : 0 ≤ a1 i → J (x1 * 5) (nI (i + 1)) a1 (upd a2 i z0) a3 a4 a5 a6 a7 a8 a9 a10 a11 a12 a13 a14) (H0 : ¬ 0 ≤ a1 i → J (x1 * 1) (nI (i + 1)) a1 (upd a2 i z0) a3 a4 a5 a6 a7 a8 a9 a10 a11 a12 a13 a14) : wX_worlds_29 post J x1 (nI i) z0 (nI i) R A D sh ex a1 a2 a3 a4 a5 a6 a7 a8 a9 a10 a11 a12 a13 a14 := by
  unfold wX_worlds_29
  rw [nI_clamp (show i < 2 ^ 31 by omega)]
  exact ⟨pk_in i 36 hi, nm_e ⟨pk_in i 36 hi, br_c (fun h => nm_e (nm_r (nI_1 i) (H1 h))) (fun h => nm_e (nm_r (nI_1 i) (H0 h)))⟩⟩
theorem lo_worlds {post : Int32 → St2 → Prop} {q u v id w : Nat} (hq : q ≤ 4) (hu : u < 3) (hv : v < 3) (hw : w ≤ 10) (hQ : lo_Q q u v a3 a4) (hL : lo_L id (nI w) a1)
    (H : ∀ (D : Int32) (sh : Int64) (ex : Int32) (a2 a5 a6 a7 a8 a9 a10 a11 a12 : Nat → Int32) (a13 : Nat → Int64) (a14 : Nat → Int32), post (lo_wd q u v id) (nI (lo_rr id), A, D, sh, ex, a1, a2, a3, a4, a5, a6, a7, a8, a9, a10, a11, a12, a13, a14)) : wpX_worlds post (nI (lo_rr id), A, D, sh, ex, a1, a2, a3, a4, a5, a6, a7, a8, a9, a10, a11, a12, a13, a14) := by
  show ∃ fu4 : Nat, wX_worlds_4 post (nI (lo_rr id)) A D sh ex fu4 1 0 a1 a2 a3 a4 a5 a6 a7 a8 a9 a10 a11 a12 a13 a14
  refine pk_loop (σ := Int64 × (Nat → Int32)) (fun n i s => wX_worlds_4 post (nI (lo_rr id)) A D sh ex n s.1 (nI i) a1 s.2 a3 a4 a5 a6 a7 a8 a9 a10 a11 a12 a13 a14) (fun i s => s.1 = (if id < i then 5 else 1) ∧ ∀ j, j < i → s.2 j = if j = id then 5 else -1) 36 0 (1, a2) (by omega) ⟨by rw [if_neg (by omega)], fun j hj => absurd hj (by omega)⟩ ?_ ?_
  · intro n s h
    obtain ⟨s1, s2⟩ := s
    obtain ⟨h1, h2⟩ := h
    dsimp only at h1 h2
    refine pk_le 36 36 (fun _ => ?_) (fun t => absurd t (by omega))
    refine lo_eval (z := 5) hq hu hv hQ (fun i hi => h2 i hi) (by decide) (fun D sh ex a5 a6 a7 a8 a9 a10 a11 a12 a13 a14 => ?_)
    have hn : ¬ s1 = 0 := by
      rw [h1]
      by_cases d : id < 36
      · rw [if_pos d]
        decide
      · rw [if_neg d]
        decide
    refine br_f hn ⟨hn, ?_⟩
    rw [h1, lo_wdE]
    exact H D sh ex s2 a5 a6 a7 a8 a9 a10 a11 a12 a13 a14
  · intro n i s hi h hg
    obtain ⟨s1, s2⟩ := s
    obtain ⟨h1, h2⟩ := h
    dsimp only at h1 h2
    refine pk_le 36 i (fun t => absurd t (by omega)) (fun _ => ⟨pk_in i 36 hi, ?_⟩)
    rw [nI_clamp (show i < 2 ^ 31 by omega)]
    by_cases e : i = id
    · have ha : 0 ≤ a1 i := by
        rw [lo_Ly hL hi e]
        exact nI_pos' (by omega)
      refine br_t ha (lo_w29 hi (fun _ => hg (s1 * 5, upd s2 i 5) ⟨?_, lo_fill (f := fun j => if j = id then 5 else -1) h2 (by show _ = if i = id then _ else _; rw [if_pos e])⟩) (fun t => absurd ha t))
      show s1 * 5 = _
      rw [h1, if_neg (by omega), if_pos (by omega)]
      decide
    · have ha : ¬ 0 ≤ a1 i := by
        rw [lo_Ln hL hi e]
        decide
      refine br_f ha (lo_w29 hi (fun t => absurd t ha) (fun _ => hg (s1 * 1, upd s2 i (-1)) ⟨?_, lo_fill (f := fun j => if j = id then 5 else -1) h2 (by show _ = if i = id then _ else _; rw [if_neg e])⟩))
      show s1 * 1 = _
      rw [Int64.mul_one, h1]
      by_cases c : id < i
      · rw [if_pos c, if_pos (by omega)]
      · rw [if_neg c, if_neg (by omega)]
end
/-! the greatest weight -/
def lo_mx (z : Int32) (w : Nat) : Int64 := if z = 11 then (nI (10 - w)).toInt64 else (nI (max w (10 - w))).toInt64
def lo_g (q u v val : Nat) : Nat := 9 * q + 3 * lo_vf val u + lo_vf val v
theorem lo_bit0 : ∀ i, i < 4 → ((((0 : Int32)).toUInt32 >>> ((nI i).toUInt32 &&& Int32.toUInt32 31)).toInt32 &&& 1) = 0 := by decide +kernel
theorem lo_div9 {i : Nat} (hi : i < 36) : nI i / 9 = nI (i / 9) := pk_div (d := 9) (by omega) (by omega) (by omega)
theorem lo_10w {w : Nat} (hw : w ≤ 10) : 10 - nI w = nI (10 - w) := pk_sub (a := 10) hw
section
variable {R A D : Int32} {sh : Int64} {ex : Int32} {a1 a2 a3 a4 a5 a6 a7 a8 a9 a10 a11 a12 : Nat → Int32} {a13 : Nat → Int64} {a14 : Nat → Int32}
theorem lo_129s {post : Int64 → Prop} {J : Int64 → Int32 → Prop} {x1 x4 z0 : Int32} {x2 : Int64} {i : Nat} (hi : i < 36) (h1 : a1 i < 0 ∨ ¬ z0 = 0) (H : J x2 (nI (i + 1))) : wX_weightFor_129 post J x1 x2 x4 (nI i) z0 R A D sh ex a1 a2 a3 a4 a5 a6 a7 a8 a9 a10 a11 a12 a13 a14 := by
  unfold wX_weightFor_129
  rw [nI_clamp (show i < 2 ^ 31 by omega)]
  refine ⟨pk_in i 36 hi, br_c (fun _ => nm_r (nI_1 i) H) (fun h => ?_)⟩
  exact br_f (h1.resolve_left h) (nm_r (nI_1 i) H)
theorem lo_169 {post : Int64 → Prop} {J : Int64 → Int32 → Prop} {x1 x4 y : Int32} {x2 : Int64} {i w : Nat} (hi : i < 36) (hw : w ≤ 10) (h1 : a1 i = nI w) (h2 : ¬ a2 i = 12) (H1 : y ≤ nI (10 - w) → J (x2 * (nI (10 - w)).toInt64) (nI (i + 1))) (H0 : ¬ y ≤ nI (10 - w) → J (x2 * y.toInt64) (nI (i + 1))) : wX_weightFor_169 post J x1 x2 x4 (nI i) y R A D sh ex a1 a2 a3 a4 a5 a6 a7 a8 a9 a10 a11 a12 a13 a14 := by
  unfold wX_weightFor_169
  rw [nI_clamp (show i < 2 ^ 31 by omega), h1, lo_10w hw]
  refine ⟨pk_in i 36 hi, br_f h2 ⟨pk_in i 36 hi, ?_⟩⟩
  exact br_c (fun h => nm_e (nm_r (nI_1 i) (H1 h))) (fun h => nm_e (nm_r (nI_1 i) (H0 h)))
theorem lo_m1le : ∀ k, k < 11 → (-1 : Int32) ≤ nI k := by decide +kernel
theorem lo_129m {post : Int64 → Prop} {J : Int64 → Int32 → Prop} {x1 x4 z : Int32} {x2 : Int64} {i w : Nat} (hi : i < 36) (hw : w ≤ 10) (h1 : a1 i = nI w) (h2 : a2 i = z) (hz : ¬ z = 12) (H : J (x2 * lo_mx z w) (nI (i + 1))) : wX_weightFor_129 post J x1 x2 x4 (nI i) 0 R A D sh ex a1 a2 a3 a4 a5 a6 a7 a8 a9 a10 a11 a12 a13 a14 := by
  unfold wX_weightFor_129
  rw [nI_clamp (show i < 2 ^ 31 by omega), h1, h2]
  refine ⟨pk_in i 36 hi, br_f (nI_pos (by omega)) (br_t rfl ⟨pk_in i 36 hi, ?_⟩)⟩
  unfold lo_mx at H
  by_cases c : z = 11
  · rw [if_pos c] at H
    exact br_t c (lo_169 hi hw h1 (by rw [h2]; exact hz) (fun _ => H) (fun t => absurd (lo_m1le (10 - w) (by omega)) t))
  · rw [if_neg c] at H
    refine br_f c ⟨pk_in i 36 hi, lo_169 hi hw h1 (by rw [h2]; exact hz) (fun t => ?_) (fun t => ?_)⟩
    · have t2 := (nI_leI (by omega) (by omega)).mp t
      rw [show max w (10 - w) = 10 - w by omega] at H
      exact H
    · have t2 : ¬ w ≤ 10 - w := fun s => t (nI_le s (by omega))
      rw [show max w (10 - w) = w by omega] at H
      exact H
/-- no atom: the product runs over the listed row -/
theorem lo_wfA {post : Int64 → Prop} {q u v id w val : Nat} {z : Int32} (hq : q = 4) (hw : w ≤ 10) (hQ : lo_Q q u v a3 a4) (hL1 : lo_L id (nI w) a1) (hL2 : lo_L id z a2) (hz : ¬ z = 12)
    (hp : post (if id < 36 then lo_mx z w else 1)) : wpX_weightFor post (R, A, D, sh, ex, a1, a2, a3, a4, a5, a6, a7, a8, a9, a10, a11, a12, a13, a14) (nI val) := by
  show ∃ fu8 : Nat, wX_weightFor_8 post (nI val) R A D sh ex a1 a2 a3 a4 a5 a6 a7 a8 a9 a10 a11 a12 a13 a14 fu8 1 0 0
  refine pk_loop (σ := Unit) (fun n i _ => wX_weightFor_8 post (nI val) R A D sh ex a1 a2 a3 a4 a5 a6 a7 a8 a9 a10 a11 a12 a13 a14 n 1 0 (nI i)) (fun _ _ => True) 4 0 () (by omega) trivial ?_ ?_
  · intro n _ _
    refine pk_le 4 4 (fun _ => ?_) (fun t => absurd t (by omega))
    refine pk_loop (fun n i s => wX_weightFor_88 post (nI val) 0 R A D sh ex a1 a2 a3 a4 a5 a6 a7 a8 a9 a10 a11 a12 a13 a14 n s (nI i)) (fun i s => s = if id < i then lo_mx z w else 1) 36 0 1 (by omega) (by rw [if_neg (by omega)]) ?_ ?_
    · intro m s h
      refine pk_le 36 36 (fun _ => ?_) (fun t => absurd t (by omega))
      rw [h]
      exact hp
    · intro m i s hi h hg
      refine pk_le 36 i (fun t => absurd t (by omega)) (fun _ => ⟨by decide, nm_r (lo_div9 hi) (br_t (lo_bit0 (i / 9) (by omega)) ?_)⟩)
      unfold wX_weightFor_128
      by_cases e : i = id
      · refine lo_129m hi hw (lo_Ly hL1 hi e) (lo_Ly hL2 hi e) hz (hg _ ?_)
        rw [h, if_neg (by omega), if_pos (by omega), Int64.one_mul]
      · refine lo_129s hi (Or.inl (by rw [lo_Ln hL1 hi e]; decide)) (hg _ ?_)
        rw [h]
        by_cases c : id < i
        · rw [if_pos c, if_pos (by omega)]
        · rw [if_neg c, if_neg (by omega)]
  · intro n i _ hi _ hg
    refine pk_le 4 i (fun t => absurd t (by omega)) (fun _ => ⟨pk_in i 4 hi, ?_⟩)
    rw [nI_clamp (show i < 2 ^ 31 by omega), (lo_Q0 hQ hi (by omega)).1]
    exact br_t (by decide) (nm_r (nI_1 i) (hg () trivial))
/-- an atom: its row is asked for -/
theorem lo_wfB {post : Int64 → Prop} {q u v id w val : Nat} {z : Int32} (hq : q < 4) (hu : u < 3) (hv : v < 3) (hw : w ≤ 10) (hQ : lo_Q q u v a3 a4) (hL1 : lo_L id (nI w) a1) (hL2 : lo_L id z a2) (hz0 : 0 ≤ z) (hval : val < 64) (nu : lo_vf val u < 3) (nv : lo_vf val v < 3)
    (hp : post (cond (decide (lo_g q u v val = id ∧ ¬ z = 11)) (nI w).toInt64 (-1))) : wpX_weightFor post (R, A, D, sh, ex, a1, a2, a3, a4, a5, a6, a7, a8, a9, a10, a11, a12, a13, a14) (nI val) := by
  have hlt : lo_g q u v val < 36 := by unfold lo_g; omega
  have hdv : lo_g q u v val / 9 = q := by unfold lo_g; omega
  have hc : (nI (lo_g q u v val)).toNatClampNeg = lo_g q u v val := nI_clamp (by omega)
  show ∃ fu8 : Nat, wX_weightFor_8 post (nI val) R A D sh ex a1 a2 a3 a4 a5 a6 a7 a8 a9 a10 a11 a12 a13 a14 fu8 1 0 0
  refine pk_loop (σ := Int64 × Int32) (fun n i s => wX_weightFor_8 post (nI val) R A D sh ex a1 a2 a3 a4 a5 a6 a7 a8 a9 a10 a11 a12 a13 a14 n s.1 s.2 (nI i)) (fun i s => (i ≤ q ∧ s = (1, 0)) ∨ (q < i ∧ (lo_g q u v val = id ∧ ¬ z = 11) ∧ s = ((nI w).toInt64, nI (2 ^ q)))) 4 0 (1, 0) (by omega) (Or.inl ⟨by omega, rfl⟩) ?_ ?_
  · intro n s h
    rcases h with ⟨h1, _⟩ | ⟨_, hh, h2⟩
    · exact absurd h1 (by omega)
    · subst h2
      rw [decide_eq_true hh] at hp
      refine pk_le 4 4 (fun _ => ?_) (fun t => absurd t (by omega))
      refine pk_loop (σ := Unit) (fun n i _ => wX_weightFor_88 post (nI val) (nI (2 ^ q)) R A D sh ex a1 a2 a3 a4 a5 a6 a7 a8 a9 a10 a11 a12 a13 a14 n (nI w).toInt64 (nI i)) (fun _ _ => True) 36 0 () (by omega) trivial ?_ ?_
      · exact fun m _ _ => pk_le 36 36 (fun _ => hp) (fun t => absurd t (by omega))
      · intro m i _ hi _ hg
        refine pk_le 36 i (fun t => absurd t (by omega)) (fun _ => ⟨by decide, nm_r (lo_div9 hi) ?_⟩)
        by_cases e : i / 9 = q
        · refine br_f (fun t => (lo_bit q hq (i / 9) (by omega)).mp t e) ?_
          rw [e]
          refine lo_groundRow hq hu hv hQ hval ?_
          refine pk_eq (lo_g q u v val) i (fun t => ?_) (fun t => ?_)
          · exact lo_129s hi (Or.inr (by decide)) (hg () trivial)
          · unfold wX_weightFor_128
            exact lo_129s hi (Or.inl (by rw [lo_Ln hL1 hi (by omega)]; decide)) (hg () trivial)
        · refine br_t ((lo_bit q hq (i / 9) (by omega)).mpr e) ?_
          unfold wX_weightFor_128
          refine lo_129s hi (Or.inl ?_) (hg () trivial)
          rw [lo_Ln hL1 hi (fun t => e (by rw [t, ← hh.1]; exact hdv))]
          decide
  · intro n i s hi h hg
    refine pk_le 4 i (fun t => absurd t (by omega)) (fun _ => ⟨pk_in i 4 hi, ?_⟩)
    rw [nI_clamp (show i < 2 ^ 31 by omega)]
    by_cases e : i = q
    · have hs : s = (1, 0) := by
        rcases h with ⟨_, h2⟩ | ⟨h1, _, _⟩
        · exact h2
        · exact absurd h1 (by omega)
      subst hs
      rw [(lo_Q1 hQ hi e).1]
      refine br_f (nI_pos (by omega)) ?_
      rw [e]
      refine lo_groundRow hq hu hv hQ hval ?_
      show vp_in (nI (lo_g q u v val)) 36 ∧ _
      have hin := pk_in (x := nI (lo_g q u v val)) (lo_g q u v val) 36 hlt
      refine ⟨hin, ?_⟩
      rw [show (nI (9 * q + 3 * lo_vf val u + lo_vf val v)).toNatClampNeg = lo_g q u v val from hc]
      by_cases c : lo_g q u v val = id
      · rw [lo_Ly hL2 hlt c, lo_Ly hL1 hlt c]
        refine br_f (Int32.not_lt.mpr hz0) ⟨hin, ?_⟩
        by_cases c2 : z = 11
        · rw [decide_eq_false (fun t => t.2 c2)] at hp
          exact br_t c2 hp
        · have hh := hg ((nI w).toInt64, nI (2 ^ q)) (Or.inr ⟨by omega, ⟨c, c2⟩, rfl⟩)
          rw [e] at hh
          exact br_f c2 ⟨hin, nm_r (Int64.one_mul _) (nm_r (lo_sh1 q hq) (nm_r (nI_1 q) hh))⟩
      · rw [lo_Ln hL2 hlt c]
        rw [decide_eq_false (fun t => c t.1)] at hp
        exact br_t (by decide) hp
    · rw [(lo_Q0 hQ hi e).1]
      refine br_t (by decide) (nm_r (nI_1 i) (hg s ?_))
      rcases h with ⟨h1, h2⟩ | ⟨h1, h2⟩
      · exact Or.inl ⟨by omega, h2⟩
      · exact Or.inr ⟨by omega, h2⟩
end
def lo_code (c : Nat) : Nat := c % 3 + 4 * (c / 3 % 3) + 16 * (c / 9)
theorem lo_codeE : ∀ c, c < 27 → (((nI c - nI c / 3 * 3) ||| (((nI c / 3) - (nI c / 3) / 3 * 3) <<< ((2 : Int32) &&& 31))) ||| ((nI c / 9) <<< ((4 : Int32) &&& 31))) = nI (lo_code c) := by decide +kernel
theorem lo_code_lt : ∀ c, c < 27 → lo_code c < 64 := by decide +kernel
theorem lo_code_vf : ∀ c, c < 27 → ∀ x, x < 3 → lo_vf (lo_code c) x < 3 := by decide +kernel
def lo_dg (u v a b x : Nat) : Nat := if x = u then a else if x = v then b else 0
def lo_wit (u v a b : Nat) : Nat := lo_dg u v a b 0 + 3 * lo_dg u v a b 1 + 9 * lo_dg u v a b 2
def lo_wok (u v a b : Nat) : Bool := decide (u = v ∧ a ≠ b) || decide (lo_wit u v a b < 27 ∧ lo_vf (lo_code (lo_wit u v a b)) u = a ∧ lo_vf (lo_code (lo_wit u v a b)) v = b)
theorem lo_witB : ∀ u, u < 3 → ∀ v, v < 3 → ∀ a, a < 3 → ∀ b, b < 3 → lo_wok u v a b = true := by decide +kernel
theorem lo_witE {u v a b : Nat} (hu : u < 3) (hv : v < 3) (ha : a < 3) (hb : b < 3) (h : u = v → a = b) : lo_wit u v a b < 27 ∧ lo_vf (lo_code (lo_wit u v a b)) u = a ∧ lo_vf (lo_code (lo_wit u v a b)) v = b := by
  have t := lo_witB u hu v hv a ha b hb
  unfold lo_wok at t
  rw [decide_eq_false (fun s => s.2 (h s.1)), Bool.false_or] at t
  exact of_decide_eq_true t
theorem lo_anyc {q u v id : Nat} (hu : u < 3) (hv : v < 3) : (∃ c, c < 27 ∧ lo_g q u v (lo_code c) = id) ↔ lo_M q u v id 63 = true := by
  unfold lo_M lo_g
  rw [decide_eq_true_iff]
  constructor
  · rintro ⟨c, hc, e⟩
    have h1 := lo_code_vf c hc u hu
    have h2 := lo_code_vf c hc v hv
    refine ⟨by omega, Or.inl (lo_vf63 u hu), Or.inl (lo_vf63 v hv), fun t => ?_⟩
    have t2 : lo_vf (lo_code c) u = lo_vf (lo_code c) v := by rw [t]
    have t3 : id / 3 = 3 * q + lo_vf (lo_code c) u := by omega
    have t4 : id % 3 = lo_vf (lo_code c) v := by omega
    omega
  · rintro ⟨e1, _, _, e4⟩
    obtain ⟨w1, w2, w3⟩ := lo_witE hu hv (show id / 3 % 3 < 3 by omega) (show id % 3 < 3 by omega) e4
    exact ⟨_, w1, by rw [w2, w3]; omega⟩
section
variable {R A D : Int32} {sh : Int64} {ex : Int32} {a1 a2 a3 a4 a5 a6 a7 a8 a9 a10 a11 a12 : Nat → Int32} {a13 : Nat → Int64} {a14 : Nat → Int32}
theorem lo_gw {post : Int64 → Prop} {G : Int64} {hb : Nat → Bool} (hG : ¬ G ≤ -1) (hwf : ∀ c, c < 27 → ∀ ψ : Int64 → Prop, ψ (cond (hb c) G (-1)) → wpX_weightFor ψ (R, A, D, sh, ex, a1, a2, a3, a4, a5, a6, a7, a8, a9, a10, a11, a12, a13, a14) (nI (lo_code c)))
    (hp : ∀ b : Bool, (b = true ↔ ∃ c, c < 27 ∧ hb c = true) → post (cond b G (-1))) : wpX_greatestWeight post (R, A, D, sh, ex, a1, a2, a3, a4, a5, a6, a7, a8, a9, a10, a11, a12, a13, a14) := by
  show ∃ fu6 : Nat, wX_greatestWeight_6 post R A D sh ex a1 a2 a3 a4 a5 a6 a7 a8 a9 a10 a11 a12 a13 a14 fu6 (-1) 0
  have hm : (-1 : Int64) ≤ G := Int64.le_of_lt (Int64.not_le.mp hG)
  refine pk_loop (fun n i s => wX_greatestWeight_6 post R A D sh ex a1 a2 a3 a4 a5 a6 a7 a8 a9 a10 a11 a12 a13 a14 n s (nI i)) (fun i s => ∃ b : Bool, s = cond b G (-1) ∧ (b = true ↔ ∃ c, c < i ∧ hb c = true)) 27 0 (-1) (by omega) ⟨false, rfl, ⟨fun t => absurd t (by decide), fun ⟨c, hc, _⟩ => absurd hc (by omega)⟩⟩ ?_ ?_
  · rintro n s ⟨b, rfl, h⟩
    exact pk_le 27 27 (fun _ => hp b h) (fun t => absurd t (by omega))
  · rintro n i s hi ⟨b, rfl, h⟩ hg
    refine pk_le 27 i (fun t => absurd t (by omega)) (fun _ => ⟨by decide, by decide, by decide, by decide, ?_⟩)
    rw [lo_codeE i hi]
    refine hwf i hi _ ?_
    cases hbi : hb i with
    | false =>
      refine br_t ?_ (nm_r (nI_1 i) (hg _ ⟨b, rfl, ?_⟩))
      · cases b
        · exact Int64.le_refl _
        · exact hm
      · rw [h]
        constructor
        · rintro ⟨c, hc, e⟩
          exact ⟨c, by omega, e⟩
        · rintro ⟨c, hc, e⟩
          by_cases ci : c = i
          · rw [ci, hbi] at e
            exact absurd e (by decide)
          · exact ⟨c, by omega, e⟩
    | true =>
      have hit : true = true ↔ ∃ c, c < i + 1 ∧ hb c = true := ⟨fun _ => ⟨i, by omega, hbi⟩, fun _ => rfl⟩
      cases b
      · exact br_f hG (nm_r (nI_1 i) (hg _ ⟨true, rfl, hit⟩))
      · exact br_t (Int64.le_refl _) (nm_r (nI_1 i) (hg _ ⟨true, rfl, hit⟩))
end
def lo_top (q u v id w : Nat) (z : Int32) : Int64 := if q < 4 then cond (lo_M q u v id 63 && decide (¬ z = 11)) (nI w).toInt64 (-1) else if id < 36 then lo_mx z w else 1
theorem lo_wG : ∀ w, w < 11 → ¬ (nI w).toInt64 ≤ -1 := by decide +kernel
theorem lo_mxG {z : Int32} {w : Nat} (hw : w ≤ 10) : ¬ lo_mx z w ≤ -1 := by
  unfold lo_mx
  by_cases c : z = 11
  · rw [if_pos c]
    exact lo_wG _ (by omega)
  · rw [if_neg c]
    exact lo_wG _ (by omega)
section
variable {R A D : Int32} {sh : Int64} {ex : Int32} {a1 a2 a3 a4 a5 a6 a7 a8 a9 a10 a11 a12 : Nat → Int32} {a13 : Nat → Int64} {a14 : Nat → Int32}
theorem lo_gwE {post : Int64 → Prop} {q u v id w : Nat} {z : Int32} (hq : q ≤ 4) (hu : u < 3) (hv : v < 3) (hw : w ≤ 10) (hQ : lo_Q q u v a3 a4) (hL1 : lo_L id (nI w) a1) (hL2 : lo_L id z a2) (hz0 : 0 ≤ z) (hz : ¬ z = 12)
    (hp : post (lo_top q u v id w z)) : wpX_greatestWeight post (R, A, D, sh, ex, a1, a2, a3, a4, a5, a6, a7, a8, a9, a10, a11, a12, a13, a14) := by
  unfold lo_top at hp
  by_cases c : q < 4
  · rw [if_pos c] at hp
    refine lo_gw (G := (nI w).toInt64) (hb := fun c => decide (lo_g q u v (lo_code c) = id ∧ ¬ z = 11)) (lo_wG w (by omega)) (fun k hk ψ hψ => lo_wfB c hu hv hw hQ hL1 hL2 hz0 (lo_code_lt k hk) (lo_code_vf k hk u hu) (lo_code_vf k hk v hv) hψ) (fun b hb => ?_)
    have e : b = (lo_M q u v id 63 && decide (¬ z = 11)) := by
      rw [Bool.eq_iff_iff, hb, Bool.and_eq_true, decide_eq_true_iff, ← lo_anyc hu hv]
      constructor
      · rintro ⟨k, hk, e⟩
        have e2 := of_decide_eq_true e
        exact ⟨⟨k, hk, e2.1⟩, e2.2⟩
      · rintro ⟨⟨k, hk, e⟩, e2⟩
        exact ⟨k, hk, decide_eq_true ⟨e, e2⟩⟩
    rw [e]
    exact hp
  · rw [if_neg c] at hp
    have hG : ¬ (if id < 36 then lo_mx z w else 1) ≤ (-1 : Int64) := by
      by_cases d : id < 36
      · rw [if_pos d]
        exact lo_mxG hw
      · rw [if_neg d]
        decide
    refine lo_gw (G := if id < 36 then lo_mx z w else 1) (hb := fun _ => true) hG (fun k hk ψ hψ => lo_wfA (by omega) hw hQ hL1 hL2 hz hψ) (fun b hb => ?_)
    rw [hb.mpr ⟨0, by omega, rfl⟩]
    exact hp
end
def lo_hv (q u v id w : Nat) : Int32 := if q < 4 then cond (lo_M q u v id 63) 1 (-1) else if id < 36 ∧ 5 < w then 1 else 0
theorem lo_mx5 : ∀ w, w < 11 → (lo_mx 11 w = lo_mx (nI w) w ↔ ¬ 5 < w) := by decide +kernel
theorem lo_w11 : ∀ w, w < 11 → ¬ nI w = 11 ∧ ¬ nI w = 12 ∧ 0 ≤ nI w := by decide +kernel
theorem lo_num {q u v id w : Nat} (hw : w ≤ 10) (hid : id < 36) (hM : q < 4 → lo_M q u v id 63 = true) :
    (lo_top q u v id w 11 = lo_top q u v id w (nI w) → lo_hv q u v id w = 0) ∧ (¬ lo_top q u v id w 11 = lo_top q u v id w (nI w) → lo_hv q u v id w = 1) := by
  unfold lo_top lo_hv
  by_cases c : q < 4
  · rw [if_pos c, if_pos c, if_pos c, hM c, decide_eq_true (lo_w11 w (by omega)).1]
    refine ⟨fun t => absurd t ?_, fun _ => rfl⟩
    intro t
    have t2 : (-1 : Int64) = (nI w).toInt64 := t
    exact lo_wG w (by omega) (by rw [← t2]; exact Int64.le_refl _)
  · rw [if_neg c, if_neg c, if_neg c, if_pos hid, if_pos hid]
    have h5 := lo_mx5 w (by omega)
    constructor
    · intro t
      rw [if_neg (fun s => h5.mp t s.2)]
    · intro t
      by_cases d : 5 < w
      · rw [if_pos ⟨hid, d⟩]
      · exact absurd (h5.mpr d) t
section
variable {R A D : Int32} {sh : Int64} {ex : Int32} {a1 a2 a3 a4 a5 a6 a7 a8 a9 a10 a11 a12 : Nat → Int32} {a13 : Nat → Int64} {a14 : Nat → Int32}
theorem lo_heavy {post : Int32 → St2 → Prop} {q u v id w : Nat} (hq : q ≤ 4) (hu : u < 3) (hv : v < 3) (hw : w ≤ 10) (hQ : lo_Q q u v a3 a4) (hL : lo_L id (nI w) a1)
    (H : ∀ a2 : Nat → Int32, post (lo_hv q u v id w) (nI (lo_rr id), A, D, sh, ex, a1, a2, a3, a4, a5, a6, a7, a8, a9, a10, a11, a12, a13, a14)) : wpX_heaviest post (nI (lo_rr id), A, D, sh, ex, a1, a2, a3, a4, a5, a6, a7, a8, a9, a10, a11, a12, a13, a14) := by
  obtain ⟨w11, w12, w0⟩ := lo_w11 w (by omega)
  unfold wpX_heaviest
  refine lo_take (fun b2 hb => lo_gwE hq hu hv hw hQ hL (lo_Lc hb hL) w0 w12 ?_)
  by_cases hM : q < 4 → lo_M q u v id 63 = true
  · have ht : (0 : Int64) ≤ lo_top q u v id w (nI w) := by
      unfold lo_top
      by_cases c : q < 4
      · rw [if_pos c, hM c, decide_eq_true w11]
        have h0 : ∀ w, w < 11 → (0 : Int64) ≤ (nI w).toInt64 := by decide +kernel
        exact h0 w (by omega)
      · rw [if_neg c]
        by_cases d : id < 36
        · rw [if_pos d]
          have h0 : ∀ w, w < 11 → (0 : Int64) ≤ lo_mx (nI w) w := by decide +kernel
          exact h0 w (by omega)
        · rw [if_neg d]
          decide
    refine br_t ht ?_
    have main := pk_loopD (σ := Int32 × Int32 × (Nat → Int32)) (fun n j s => wX_heaviest_29 post (lo_top q u v id w (nI w)) (nI (lo_rr id)) A D sh ex n s.1 s.2.1 (nI j + (-1)) a1 s.2.2 a3 a4 a5 a6 a7 a8 a9 a10 a11 a12 a13 a14)
      (fun j s => j ≤ 36 ∧ (id < j → s.1 = 0 ∧ s.2.1 = nI (lo_rr id) ∧ lo_L id (nI w) s.2.2) ∧ (¬ id < j → s.1 = lo_hv q u v id w)) ?_ ?_ 36 (0, nI (lo_rr id), b2) ⟨by omega, fun _ => ⟨rfl, rfl, lo_Lc hb hL⟩, fun d => ?_⟩
    · have e : nI 36 + (-1) = 35 := by decide
      dsimp only at main
      rw [e] at main
      exact ⟨_, main⟩
    · intro n s h
      refine br_t (by decide) ?_
      rw [h.2.2 (by omega)]
      exact H _
    · rintro n j ⟨x3, x4, c2⟩ ⟨h1, h2, h3⟩ hg
      dsimp only at h1 h2 h3
      show wX_heaviest_29 post (lo_top q u v id w (nI w)) (nI (lo_rr id)) A D sh ex (n + 1) x3 x4 (nI (j + 1) + (-1)) a1 c2 a3 a4 a5 a6 a7 a8 a9 a10 a11 a12 a13 a14
      rw [pk_m1]
      refine br_f (nI_pos (by omega)) ⟨pk_in j 36 (by omega), ?_⟩
      rw [nI_clamp (show j < 2 ^ 31 by omega)]
      by_cases e : j = id
      · obtain ⟨rfl, rfl, hc2⟩ := h2 (by omega)
        have hid : id < 36 := by omega
        obtain ⟨n0, n1⟩ := lo_num (q := q) (u := u) (v := v) hw hid hM
        have hrr : lo_rr id = 1 := if_pos hid
        rw [lo_Ly hL (by omega) e]
        refine br_f (nI_pos (by omega)) (nm_r (e' := nI 0) (by rw [hrr]; exact pk_m1 0) ⟨pk_in j 36 (by omega), nm_e ?_⟩)
        refine lo_gwE (z := 11) hq hu hv hw hQ hL (by rw [e]; exact lo_Lu hc2) (by decide) (by decide) ?_
        refine br_c (fun t => nm_e (hg (0, nI 0, upd c2 j 11) ⟨by omega, fun d => absurd d (by omega), fun _ => (n0 t).symm⟩)) (fun t => ⟨pk_in j 36 (by omega), nm_e (nm_r (e' := 1) (by decide) (nm_e ?_))⟩)
        exact hg (1, nI 0, upd (upd c2 j 11) j 12) ⟨by omega, fun d => absurd d (by omega), fun _ => (n1 t).symm⟩
      · rw [lo_Ln hL (by omega) e]
        exact br_t (by decide) (nm_e (hg (x3, x4, c2) ⟨by omega, fun d => h2 (by omega), fun d => h3 (by omega)⟩))
    · show (0 : Int32) = lo_hv q u v id w
      unfold lo_hv
      by_cases c : q < 4
      · exact absurd (lo_Mid c (hM c)) d
      · rw [if_neg c, if_neg (fun s => d s.1)]
  · have c : q < 4 := by
      by_cases c : q < 4
      · exact c
      · exact absurd (fun t => absurd t c) hM
    have hM0 : lo_M q u v id 63 = false := by
      cases hh : lo_M q u v id 63
      · rfl
      · exact absurd (fun _ => hh) hM
    have hh := H b2
    unfold lo_hv at hh
    rw [if_pos c, hM0] at hh
    refine br_f ?_ hh
    unfold lo_top
    rw [if_pos c, hM0]
    show ¬ (0 : Int64) ≤ -1
    decide
end
end
section
/-! the constructor, row, atom, weightWithout -/
theorem lo_in3I {r a b : Nat} (hr : r < 4) (ha : a < 3) (hb : b < 3) : lo_in3 (nI r) (nI a) (nI b) :=
  ⟨nI_pos (by omega), nI_nlt (a := 3) (by omega) (by omega), nI_pos (by omega), nI_nlt (a := 2) (by omega) (by omega), nI_pos (by omega), nI_nlt (a := 2) (by omega) (by omega)⟩
theorem lo_QI {q u v : Nat} {f g : Nat → Int32} (h : ∀ i, i < 4 → f i = -1 ∧ g i = -1) (hq : q ≤ 4) : lo_Q q u v (upd f q (nI u)) (upd g q (nI v)) := fun i hi => by
  by_cases e : i = q
  · rw [e, pk_us, pk_us, if_pos rfl, if_pos rfl]
    exact ⟨rfl, rfl⟩
  · rw [pk_un e, pk_un e, if_neg e, if_neg e]
    exact h i hi
theorem lo_Q4 {f g : Nat → Int32} : lo_Q 4 0 0 f g ↔ ∀ i, i < 4 → f i = -1 ∧ g i = -1 := by
  constructor
  · exact fun h i hi => lo_Q0 h hi (by omega)
  · intro h i hi
    rw [if_neg (by omega)]
    exact h i hi
section
variable {R A D : Int32} {sh : Int64} {ex : Int32} {a1 a2 a3 a4 a5 a6 a7 a8 a9 a10 a11 a12 : Nat → Int32} {a13 : Nat → Int64} {a14 : Nat → Int32}
theorem lo_clear {post : St2 → Prop} (H : ∀ b3 b4, lo_Q 4 0 0 b3 b4 → post (R, 0, D, sh, ex, a1, a2, b3, b4, a5, a6, a7, a8, a9, a10, a11, a12, a13, a14)) : wpX_clearQuery post (R, A, D, sh, ex, a1, a2, a3, a4, a5, a6, a7, a8, a9, a10, a11, a12, a13, a14) := by
  show ∃ fu2 : Nat, wX_clearQuery_2 post R A D sh ex fu2 0 a1 a2 a3 a4 a5 a6 a7 a8 a9 a10 a11 a12 a13 a14
  refine pk_loop (σ := (Nat → Int32) × (Nat → Int32)) (fun n i s => wX_clearQuery_2 post R A D sh ex n (nI i) a1 a2 s.1 s.2 a5 a6 a7 a8 a9 a10 a11 a12 a13 a14) (fun i s => (∀ j, j < i → s.1 j = -1) ∧ (∀ j, j < i → s.2 j = -1)) 4 0 (a3, a4) (by omega) ⟨fun j hj => absurd hj (by omega), fun j hj => absurd hj (by omega)⟩ ?_ ?_
  · exact fun n s h => pk_le 4 4 (fun _ => H s.1 s.2 (lo_Q4.mpr (fun i hi => ⟨h.1 i hi, h.2 i hi⟩))) (fun t => absurd t (by omega))
  · intro n i s hi h hw
    refine pk_le 4 i (fun t => absurd t (by omega)) (fun _ => ?_)
    rw [nI_clamp (show i < 2 ^ 31 by omega)]
    exact ⟨pk_in i 4 hi, nm_e ⟨pk_in i 4 hi, nm_e (nm_r (nI_1 i) (hw (upd s.1 i (-1), upd s.2 i (-1)) ⟨lo_fill (f := fun _ => -1) h.1 rfl, lo_fill (f := fun _ => -1) h.2 rfl⟩))⟩⟩
theorem lo_init {post : St2 → Prop} {mc ms : Nat} (hmc : 14 ≤ mc) (hms : 560 ≤ ms) (H : ∀ (a1 a2 a3 a4 a5 a6 a7 a8 a9 a10 a11 a12 : Nat → Int32) (a13 : Nat → Int64) (a14 : Nat → Int32), lo_L 36 (nI 0) a1 → lo_Q 4 0 0 a3 a4 → post (0, 0, 0, 0, 0, a1, a2, a3, a4, a5, a6, a7, a8, a9, a10, a11, a12, a13, a14)) : wpX_init post mc ms (0, 0, 0, 0, 0) := by
  unfold wpX_init
  refine ⟨by omega, by omega, by omega, by omega, by omega, by omega, by omega, by omega, by omega, by omega, by omega, by omega, by omega, by omega, by omega, by omega, by omega, by omega, by omega, by omega, by omega, by omega, by omega, by omega, by omega, by omega, by omega, by omega, ?_⟩
  refine pk_loop (fun n i s => wX_init_116 post mc ms 14 560 0 0 0 0 0 n (nI i) s (fun _ => 0) (fun _ => 0) (fun _ => 0) (fun _ => 0) (fun _ => 0) (fun _ => 0) (fun _ => 0) (fun _ => 0) (fun _ => 0) (fun _ => 0) (fun _ => 0) (fun _ => 0) (fun _ => 0)) (fun i s => ∀ j, j < i → s j = -1) 36 0 (fun _ => 0) (by omega) (fun j hj => absurd hj (by omega)) ?_ ?_
  · intro n s h
    refine pk_le 36 36 (fun _ => lo_clear (fun b3 b4 hQ => ?_)) (fun t => absurd t (by omega))
    refine H _ _ _ _ _ _ _ _ _ _ _ _ _ _ (fun i hi => ?_) hQ
    rw [if_neg (by omega)]
    exact h i hi
  · intro n i s hi h hw
    refine pk_le 36 i (fun t => absurd t (by omega)) (fun _ => ?_)
    rw [nI_clamp (show i < 2 ^ 31 by omega)]
    exact ⟨pk_in i 36 hi, nm_e (nm_r (nI_1 i) (hw _ (lo_fill (f := fun _ => -1) h rfl)))⟩
theorem lo_rowT {post : Int32 → St2 → Prop} {r a b w : Nat} {y : Int32} (hr : r < 4) (ha : a < 3) (hb : b < 3) (hw : w ≤ 10) (hL : lo_L 36 y a1) (H : ∀ c1, lo_L (9 * r + 3 * a + b) (nI w) c1 → post 1 (1, A, D, sh, ex, c1, a2, a3, a4, a5, a6, a7, a8, a9, a10, a11, a12, a13, a14)) : wpX_row post (0, A, D, sh, ex, a1, a2, a3, a4, a5, a6, a7, a8, a9, a10, a11, a12, a13, a14) (nI r) (nI a) (nI b) (nI w) := by
  have hlt : 9 * r + 3 * a + b < 36 := by omega
  have hc : (nI (9 * r + 3 * a + b)).toNatClampNeg = 9 * r + 3 * a + b := nI_clamp (by omega)
  have hi := pk_in (x := nI (9 * r + 3 * a + b)) (9 * r + 3 * a + b) 36 hlt
  unfold wpX_row
  refine lo_isRow (fun _ => br_f (by decide) (br_f (nI_pos (by omega)) (br_t (nI_le (b := 10) hw (by omega)) (nm_r (lo_idE r a b) ⟨hi, ?_⟩)))) (fun t => absurd (lo_in3I hr ha hb) t)
  rw [hc, lo_Ln hL hlt (by omega)]
  refine br_f (by decide) (br_t (by decide) (nm_r (e' := 1) (by decide) ?_))
  unfold wX_row_66
  rw [hc]
  refine ⟨hi, nm_e (H _ (fun i hi2 => ?_))⟩
  by_cases e : i = 9 * r + 3 * a + b
  · rw [e, pk_us, if_pos rfl]
  · rw [pk_un e, if_neg e, lo_Ln hL hi2 (by omega)]
theorem lo_rowF {post : Int32 → St2 → Prop} {p0 p1 p2 p3 : Int32} (hf : ¬ (lo_in3 p0 p1 p2 ∧ ¬ p3 < 0 ∧ ¬ 10 < p3)) (H : post (-1) (R, A, D, sh, ex, a1, a2, a3, a4, a5, a6, a7, a8, a9, a10, a11, a12, a13, a14)) : wpX_row post (R, A, D, sh, ex, a1, a2, a3, a4, a5, a6, a7, a8, a9, a10, a11, a12, a13, a14) p0 p1 p2 p3 := by
  unfold wpX_row
  exact lo_isRow (fun t => br_f (by decide) (br_c (fun _ => H) (fun h3 => br_f (fun le => hf ⟨t, h3, Int32.not_lt.mpr le⟩) H))) (fun _ => br_t rfl H)
theorem lo_atomT {post : Int32 → St2 → Prop} {q u v : Nat} (hq : q < 4) (hu : u < 3) (hv : v < 3) (hQ : lo_Q 4 0 0 a3 a4) (H : ∀ c3 c4, lo_Q q u v c3 c4 → post 1 (R, 1, D, sh, ex, a1, a2, c3, c4, a5, a6, a7, a8, a9, a10, a11, a12, a13, a14)) : wpX_atom post (R, 0, D, sh, ex, a1, a2, a3, a4, a5, a6, a7, a8, a9, a10, a11, a12, a13, a14) (nI q) (nI u) (nI v) := by
  have hi := pk_in (x := nI q) q 4 hq
  unfold wpX_atom
  refine lo_isRow (fun _ => br_f (by decide) ⟨hi, ?_⟩) (fun t => absurd (lo_in3I hq hu hv) t)
  rw [nI_clamp (show q < 2 ^ 31 by omega), (lo_Q0 hQ hq (by omega)).1]
  exact br_t (by decide) ⟨hi, nm_e ⟨hi, nm_e (nm_r (e' := 1) (by decide) (H _ _ (lo_QI (lo_Q4.mp hQ) (by omega))))⟩⟩
theorem lo_atomA {post : Int32 → St2 → Prop} {q u v : Nat} (hq : q < 4) (hu : u < 3) (hv : v < 3) (hQ : lo_Q q u v a3 a4) (H : post (-1) (R, A, D, sh, ex, a1, a2, a3, a4, a5, a6, a7, a8, a9, a10, a11, a12, a13, a14)) : wpX_atom post (R, A, D, sh, ex, a1, a2, a3, a4, a5, a6, a7, a8, a9, a10, a11, a12, a13, a14) (nI q) (nI u) (nI v) := by
  have hi := pk_in (x := nI q) q 4 hq
  unfold wpX_atom
  refine lo_isRow (fun _ => br_f (by decide) ⟨hi, ?_⟩) (fun t => absurd (lo_in3I hq hu hv) t)
  rw [nI_clamp (show q < 2 ^ 31 by omega), (lo_Q1 hQ hq rfl).1]
  exact br_f (nI_pos (by omega)) H
theorem lo_atomF {post : Int32 → St2 → Prop} {p0 p1 p2 : Int32} (hf : ¬ lo_in3 p0 p1 p2) (H : post (-1) (R, A, D, sh, ex, a1, a2, a3, a4, a5, a6, a7, a8, a9, a10, a11, a12, a13, a14)) : wpX_atom post (R, A, D, sh, ex, a1, a2, a3, a4, a5, a6, a7, a8, a9, a10, a11, a12, a13, a14) p0 p1 p2 := by
  unfold wpX_atom
  exact lo_isRow (fun t => absurd t hf) (fun _ => br_t rfl H)
end
/-- the law's row: listed at id with weight w, or refused -/
def lo_rowd (id w : Nat) (x0 x1 x2 x3 x7 : Int32) : Prop :=
  (∃ r a b : Nat, r < 4 ∧ a < 3 ∧ b < 3 ∧ x0 = nI r ∧ x1 = nI a ∧ x2 = nI b ∧ id = 9 * r + 3 * a + b ∧ x3 = nI w ∧ x7 = 1) ∨ (id = 36 ∧ x7 = 0)
def lo_wv (q id w : Nat) : Int64 := if q < 4 then 0 else if id < 36 then (nI (10 - w)).toInt64 else 1
theorem lo_sh0 (c : Bool) : lo_sh c 0 = 0 := by cases c <;> decide
theorem lo_wvI {q u v id w : Nat} (hid : id < 36) : lo_r q u v id 0 / 10 * (nI (10 - w)).toInt64 = lo_wv q id w := by
  unfold lo_r lo_wv lo_rr
  by_cases c : q < 4
  · rw [if_pos c, if_pos c, lo_sh0, show (0 : Int64) / 10 = 0 by decide, Int64.zero_mul]
  · rw [if_neg c, if_neg c, if_pos hid, if_pos hid, show lo_pw 1 / 10 = 1 by decide, Int64.one_mul]
theorem lo_wvO {q u v w : Nat} : lo_r q u v 36 (nI w) = lo_wv q 36 w := by
  unfold lo_r lo_wv lo_rr
  by_cases c : q < 4
  · have hM : lo_M q u v 36 63 = false := by
      cases h : lo_M q u v 36 63
      · rfl
      · exact absurd (lo_Mid c h) (by omega)
    rw [if_pos c, if_pos c, hM]
    rfl
  · rw [if_neg c, if_neg c, if_neg (show ¬ 36 < 36 by omega), if_neg (show ¬ 36 < 36 by omega)]
    decide
section
variable {R A D : Int32} {sh : Int64} {ex : Int32} {a1 a2 a3 a4 a5 a6 a7 a8 a9 a10 a11 a12 : Nat → Int32} {a13 : Nat → Int64} {a14 : Nat → Int32}
theorem lo_ww {post : Int64 → St2 → Prop} {q u v id w : Nat} {x0 x1 x2 x3 x7 : Int32} (hq : q ≤ 4) (hu : u < 3) (hv : v < 3) (hw : w ≤ 10) (hQ : lo_Q q u v a3 a4) (hL : lo_L id (nI w) a1) (hd : lo_rowd id w x0 x1 x2 x3 x7)
    (H : ∀ (D : Int32) (sh : Int64) (ex : Int32) (a2 a5 a6 a7 a8 a9 a10 a11 a12 : Nat → Int32) (a13 : Nat → Int64) (a14 : Nat → Int32), post (lo_wv q id w) (nI (lo_rr id), A, D, sh, ex, a1, a2, a3, a4, a5, a6, a7, a8, a9, a10, a11, a12, a13, a14)) : wpX_weightWithout post (nI (lo_rr id), A, D, sh, ex, a1, a2, a3, a4, a5, a6, a7, a8, a9, a10, a11, a12, a13, a14) x0 x1 x2 := by
  unfold wpX_weightWithout
  rcases hd with ⟨r, a, b, hr, ha, hb, rfl, rfl, rfl, hid, _, _⟩ | ⟨hid, _⟩
  · have hlt : id < 36 := by omega
    have hc : (nI id).toNatClampNeg = id := nI_clamp (by omega)
    have hi := pk_in (x := nI id) id 36 hlt
    have go : ∀ ψ : Int32 → Prop, ψ 1 → wpX_isListed ψ (nI (lo_rr id), A, D, sh, ex, a1, a2, a3, a4, a5, a6, a7, a8, a9, a10, a11, a12, a13, a14) (nI r) (nI a) (nI b) := by
      intro ψ h1
      unfold wpX_isListed
      refine lo_isRow (fun _ => br_f (by decide) ?_) (fun t => absurd (lo_in3I hr ha hb) t)
      rw [lo_idE, ← hid, hc, lo_Ly hL hlt rfl]
      exact ⟨hi, br_f (nI_pos (by omega)) h1⟩
    refine go _ (br_f (by decide) (nm_r (e' := nI id) (by rw [lo_idE, ← hid]) (lo_take (fun b2 hb2 => ⟨hi, nm_r (e' := upd b2 id 0) (by rw [hc]) ?_⟩))))
    refine lo_eval (z := 0) hq hu hv hQ (lo_Lu (lo_Lc hb2 hL)) (by decide) (fun D sh ex a5 a6 a7 a8 a9 a10 a11 a12 a13 a14 => ⟨by decide, hi, ?_⟩)
    have hh := H D sh ex (upd b2 id 0) a5 a6 a7 a8 a9 a10 a11 a12 a13 a14
    rw [← lo_wvI (u := u) (v := v) hlt] at hh
    rw [hc, lo_Ly hL hlt rfl, lo_10w hw]
    exact hh
  · subst hid
    have go : ∀ ψ : Int32 → Prop, ψ 0 → wpX_isListed ψ (nI (lo_rr 36), A, D, sh, ex, a1, a2, a3, a4, a5, a6, a7, a8, a9, a10, a11, a12, a13, a14) x0 x1 x2 := by
      intro ψ h0
      unfold wpX_isListed
      refine lo_isRow (fun t => br_f (by decide) ?_) (fun _ => br_t rfl h0)
      obtain ⟨r, a, b, hr, ha, hb, rfl, rfl, rfl⟩ := lo_in3_of t
      have hlt : 9 * r + 3 * a + b < 36 := by omega
      rw [lo_idE, nI_clamp (show 9 * r + 3 * a + b < 2 ^ 31 by omega), lo_Ln hL hlt (by omega)]
      exact ⟨pk_in _ 36 hlt, br_t (by decide) h0⟩
    refine go _ (br_t rfl (lo_weight hq hu hv hw hQ hL (fun D sh ex a2 a5 a6 a7 a8 a9 a10 a11 a12 a13 a14 => ?_)))
    have hh := H D sh ex a2 a5 a6 a7 a8 a9 a10 a11 a12 a13 a14
    rw [← lo_wvO (u := u) (v := v)] at hh
    exact hh
end
end
section
/-! the law -/
def lo_atd (q u v : Nat) (x0 x4 x5 x8 : Int32) : Prop := (q < 4 ∧ x0 = nI q ∧ x4 = nI u ∧ x5 = nI v ∧ x8 = 1) ∨ (q = 4 ∧ ¬ lo_in3 x0 x4 x5 ∧ x8 = 0)
def lo_pic (q u v id w : Nat) (x0 x1 x2 x3 x7 x8 : Int32) (a1 a3 a4 : Nat → Int32) : Prop :=
  q ≤ 4 ∧ u < 3 ∧ v < 3 ∧ w ≤ 10 ∧ lo_Q q u v a3 a4 ∧ lo_L id (nI w) a1 ∧ lo_rowd id w x0 x1 x2 x3 x7 ∧ x8 = (if q < 4 then 1 else 0)
section
variable {post : Int32 → St0 → Prop} {mc ms kc ks : Nat} {x0 x1 x2 x3 x4 x5 x7 x8 x9 : Int32} {q u v id w : Nat} {R A D : Int32} {sh : Int64} {ex : Int32} {a1 a2 a3 a4 a5 a6 a7 a8 a9 a10 a11 a12 : Nat → Int32} {a13 : Nat → Int64} {a14 : Nat → Int32}
theorem lo_305 {z0 : Int32} (hp : lo_pic q u v id w x0 x1 x2 x3 x7 x8 a1 a3 a4) (hz : z0 = lo_hv q u v id w) (hP : post 1 ()) : wL_lawOf_305 post mc ms x0 x1 x2 x3 x7 x8 z0 kc ks (nI (lo_rr id)) A D sh ex a1 a2 a3 a4 a5 a6 a7 a8 a9 a10 a11 a12 a13 a14 := by
  obtain ⟨hq, hu, hv, hw, hQ, hL, hd, h8⟩ := hp
  unfold wL_lawOf_305
  refine lo_heavy hq hu hv hw hQ hL (fun b2 => br_t hz.symm (lo_ww hq hu hv hw hQ hL hd (fun D sh ex a2 a5 a6 a7 a8 a9 a10 a11 a12 a13 a14 => ?_)))
  by_cases c : q < 4
  · rw [if_pos c] at h8
    rw [h8]
    exact br_f (by decide) (br_t (show lo_wv q id w = (0 : Int32).toInt64 by unfold lo_wv; rw [if_pos c]; decide) hP)
  · rw [if_neg c] at h8
    rw [h8]
    refine br_t rfl ?_
    rcases hd with ⟨r, a, b, hr, ha, hb, _, _, _, hid, h3, h7⟩ | ⟨hid, h7⟩
    · rw [h7, h3, lo_10w hw]
      exact br_f (by decide) (br_t (show lo_wv q id w = (nI (10 - w)).toInt64 by unfold lo_wv; rw [if_neg c, if_pos (by omega)]) hP)
    · rw [h7]
      exact br_t rfl (br_t (show lo_wv q id w = (1 : Int32).toInt64 by unfold lo_wv; rw [if_neg c, if_neg (by omega)]; decide) hP)
theorem lo_267 {z0 z1 : Int32} (hp : lo_pic q u v id w x0 x1 x2 x3 x7 x8 a1 a3 a4) (h9 : q < 4 → x9 = cond (lo_M q u v id 63) 1 0) (hz : z1 = z0) (hP : post 1 ()) : wL_lawOf_267 post mc ms x0 x1 x2 x3 x7 x8 x9 z0 z1 kc ks (nI (lo_rr id)) A D sh ex a1 a2 a3 a4 a5 a6 a7 a8 a9 a10 a11 a12 a13 a14 := by
  have hp' := hp
  obtain ⟨hq, hu, hv, hw, hQ, hL, hd, h8⟩ := hp'
  unfold wL_lawOf_267 wL_lawOf_291
  refine br_t hz ?_
  by_cases c : q < 4
  · rw [if_pos c] at h8
    refine br_f (by rw [h8]; decide) ?_
    have e9 := h9 c
    cases hM : lo_M q u v id 63 with
    | false =>
      rw [hM] at e9
      exact br_t e9 (lo_305 hp (by unfold lo_hv; rw [if_pos c, hM]; rfl) hP)
    | true =>
      rw [hM] at e9
      exact br_f (by rw [e9]; decide) (lo_305 hp (by unfold lo_hv; rw [if_pos c, hM]; rfl) hP)
  · rw [if_neg c] at h8
    refine br_t h8 ?_
    rcases hd with ⟨r, a, b, hr, ha, hb, _, _, _, hid, h3, h7⟩ | ⟨hid, h7⟩
    · refine br_f (by rw [h7]; decide) (br_c (fun t => ?_) (fun t => ?_))
      · rw [h3] at t
        have t2 := (nI_leI (b := 5) (by omega) (by omega)).mp t
        exact lo_305 hp (by unfold lo_hv; rw [if_neg c, if_neg (by omega)]) hP
      · rw [h3] at t
        have t2 : ¬ w ≤ 5 := fun s => t (nI_le (b := 5) s (by omega))
        exact lo_305 hp (by unfold lo_hv; rw [if_neg c, if_pos (by omega)]) hP
    · exact br_t h7 (lo_305 hp (by unfold lo_hv; rw [if_neg c, if_neg (by omega)]) hP)
theorem lo_219 {z0 : Int64} (hp : lo_pic q u v id w x0 x1 x2 x3 x7 x8 a1 a3 a4) (h9 : q < 4 → x9 = cond (lo_M q u v id 63) 1 0) (hz : z0 = lo_r q u v id (nI w)) (hP : post 1 ()) : wL_lawOf_219 post mc ms x0 x1 x2 x3 x7 x8 x9 z0 kc ks (nI (lo_rr id)) A D sh ex a1 a2 a3 a4 a5 a6 a7 a8 a9 a10 a11 a12 a13 a14 := by
  have hp' := hp
  obtain ⟨hq, hu, hv, hw, hQ, hL, hd, h8⟩ := hp'
  unfold wL_lawOf_219
  refine lo_weight hq hu hv hw hQ hL (fun D sh ex a2 a5 a6 a7 a8 a9 a10 a11 a12 a13 a14 => br_t hz.symm (lo_worlds hq hu hv hw hQ hL (fun D sh ex a2 a5 a6 a7 a8 a9 a10 a11 a12 a13 a14 => ?_)))
  by_cases c : q < 4
  · rw [if_pos c] at h8
    refine br_f (by rw [h8]; decide) ?_
    have e9 := h9 c
    cases hM : lo_M q u v id 63 with
    | false =>
      have e9' := e9
      rw [hM] at e9'
      exact br_t e9' (lo_267 hp h9 (by unfold lo_wd; rw [if_pos c, hM]; rfl) hP)
    | true =>
      have e9' := e9
      rw [hM] at e9'
      exact br_f (by rw [e9']; decide) (lo_267 hp h9 (by unfold lo_wd; rw [if_pos c, hM]; rfl) hP)
  · rw [if_neg c] at h8
    refine br_t h8 ?_
    rcases hd with ⟨r, a, b, hr, ha, hb, _, _, _, hid, h3, h7⟩ | ⟨hid, h7⟩
    · exact br_f (by rw [h7]; decide) (lo_267 hp h9 (by unfold lo_wd; rw [if_neg c, if_pos (by omega)]) hP)
    · exact br_t h7 (lo_267 hp h9 (by unfold lo_wd; rw [if_neg c, if_neg (by omega)]) hP)
theorem lo_186 (hp : lo_pic q u v id w x0 x1 x2 x3 x7 x8 a1 a3 a4) (h9 : q < 4 → x9 = cond (lo_M q u v id 63) 1 0) (hP : post 1 ()) : wL_lawOf_186 post mc ms x0 x1 x2 x3 x7 x8 x9 kc ks (nI (lo_rr id)) A D sh ex a1 a2 a3 a4 a5 a6 a7 a8 a9 a10 a11 a12 a13 a14 := by
  have hp' := hp
  obtain ⟨hq, hu, hv, hw, hQ, hL, hd, h8⟩ := hp'
  unfold wL_lawOf_186 wL_lawOf_204
  by_cases c : q < 4
  · rw [if_pos c] at h8
    refine br_f (by rw [h8]; decide) ?_
    have e9 := h9 c
    cases hM : lo_M q u v id 63 with
    | false =>
      have e9' := e9
      rw [hM] at e9'
      exact br_t e9' (lo_219 hp h9 (by unfold lo_r; rw [if_pos c, hM]; rfl) hP)
    | true =>
      have e9' := e9
      rw [hM] at e9'
      have hid := lo_Mid c hM
      refine br_f (by rw [e9']; decide) (lo_219 hp h9 ?_ hP)
      rcases hd with ⟨r, a, b, hr, ha, hb, _, _, _, _, h3, h7⟩ | ⟨hid2, h7⟩
      · unfold lo_r
        rw [if_pos c, hM, h3]
        rfl
      · exact absurd hid (by omega)
  · rw [if_neg c] at h8
    refine br_t h8 ?_
    rcases hd with ⟨r, a, b, hr, ha, hb, _, _, _, hid, h3, h7⟩ | ⟨hid, h7⟩
    · exact br_f (by rw [h7]; decide) (lo_219 hp h9 (by unfold lo_r lo_rr; rw [if_neg c, if_pos (by omega)]; decide) hP)
    · exact br_t h7 (lo_219 hp h9 (by unfold lo_r lo_rr; rw [if_neg c, if_neg (by omega)]; decide) hP)
theorem lo_M63 {r a b : Nat} (hu : u < 3) (hv : v < 3) (hr : r < 4) (ha : a < 3) (hb : b < 3) (hid : id = 9 * r + 3 * a + b) (hrq : r = q) : lo_M q u v id 63 = decide (u = v → a = b) := by
  have e1 : id / 9 = q := by omega
  have e2 : id / 3 % 3 = a := by omega
  have e3 : id % 3 = b := by omega
  unfold lo_M
  apply decide_eq_decide.mpr
  rw [e1, e2, e3, lo_vf63 u hu, lo_vf63 v hv]
  exact ⟨fun t => t.2.2.2, fun t => ⟨rfl, Or.inl rfl, Or.inl rfl, t⟩⟩
theorem lo_135 {z0 z1 : Int32} (hp : lo_pic q u v id w x0 x1 x2 x3 x7 x8 a1 a3 a4) (ha : lo_atd q u v x0 x4 x5 x8) (hz : z1 = z0) (hP : post 1 ()) : wL_lawOf_135 post mc ms x0 x1 x2 x3 x4 x5 x7 x8 z0 z1 kc ks (nI (lo_rr id)) A D sh ex a1 a2 a3 a4 a5 a6 a7 a8 a9 a10 a11 a12 a13 a14 := by
  have hp' := hp
  obtain ⟨hq, hu, hv, hw, hQ, hL, hd, h8⟩ := hp'
  unfold wL_lawOf_135 wL_lawOf_185 wL_lawOf_181
  refine br_t hz ?_
  have atm : ∀ ψ : Int32 → St2 → Prop, ψ (-1) (nI (lo_rr id), A, D, sh, ex, a1, a2, a3, a4, a5, a6, a7, a8, a9, a10, a11, a12, a13, a14) → wpX_atom ψ (nI (lo_rr id), A, D, sh, ex, a1, a2, a3, a4, a5, a6, a7, a8, a9, a10, a11, a12, a13, a14) x0 x4 x5 := by
    intro ψ h
    rcases ha with ⟨c, e0, e4, e5, _⟩ | ⟨_, c, _⟩
    · rw [e0, e4, e5]
      exact lo_atomA c hu hv hQ h
    · exact lo_atomF c h
  refine atm _ (br_t rfl (lo_nested hu hv hQ (br_f (by decide) ?_)))
  rcases hd with ⟨r, a, b, hr, ha3, hb, e0, e1, e2, hid, h3, h7⟩ | ⟨hid, h7⟩
  · refine br_f (by rw [h7]; decide) ?_
    have hM : q < 4 → x4 = nI u ∧ x5 = nI v ∧ lo_M q u v id 63 = decide (u = v → a = b) := by
      intro c
      rcases ha with ⟨_, e0', e4, e5, _⟩ | ⟨c2, _, _⟩
      · refine ⟨e4, e5, lo_M63 hu hv hr ha3 hb hid ?_⟩
        rw [e0] at e0'
        exact (nI_eq (by omega) (by omega)).mp e0'
      · exact absurd c (by omega)
    refine br_c (fun t => br_c (fun t2 => ?_) (fun t2 => ?_)) (fun t => ?_)
    · refine lo_186 hp (fun c => ?_) hP
      obtain ⟨_, _, e⟩ := hM c
      have ab : a = b := by
        rw [e1, e2] at t2
        exact (nI_eq (by omega) (by omega)).mp t2
      rw [e, decide_eq_true (fun _ => ab)]
      rfl
    · refine lo_186 hp (fun c => ?_) hP
      obtain ⟨e4, e5, e⟩ := hM c
      have uv : u = v := by
        rw [e4, e5] at t
        exact (nI_eq (by omega) (by omega)).mp t
      rw [e, decide_eq_false (fun s => t2 (by rw [e1, e2, s uv]))]
      rfl
    · refine lo_186 hp (fun c => ?_) hP
      obtain ⟨e4, e5, e⟩ := hM c
      rw [e, decide_eq_true (fun s => absurd (by rw [e4, e5, s]) t)]
      rfl
  · refine br_t h7 (lo_186 hp (fun c => ?_) hP)
    have hM : lo_M q u v id 63 = false := by
      cases h : lo_M q u v id 63
      · rfl
      · exact absurd (lo_Mid c h) (by omega)
    rw [hM]
    rfl
theorem lo_110 {z0 z1 : Int32} (hw : w ≤ 10) (hQ : lo_Q 4 0 0 a3 a4) (hL : lo_L id (nI w) a1) (hd : lo_rowd id w x0 x1 x2 x3 x7) (h8 : (lo_in3 x0 x4 x5 ∧ x8 = 1) ∨ (¬ lo_in3 x0 x4 x5 ∧ x8 = 0)) (hz : z1 = z0) (hP : post 1 ()) :
    wL_lawOf_110 post mc ms x0 x1 x2 x3 x4 x5 x7 x8 z0 z1 kc ks (nI (lo_rr id)) 0 D sh ex a1 a2 a3 a4 a5 a6 a7 a8 a9 a10 a11 a12 a13 a14 := by
  unfold wL_lawOf_110
  refine br_t hz ?_
  rcases h8 with ⟨c, h8⟩ | ⟨c, h8⟩
  · obtain ⟨q, u, v, hq, hu, hv, e0, e4, e5⟩ := lo_in3_of c
    have at1 : ∀ ψ : Int32 → St2 → Prop, (∀ c3 c4, lo_Q q u v c3 c4 → ψ 1 (nI (lo_rr id), 1, D, sh, ex, a1, a2, c3, c4, a5, a6, a7, a8, a9, a10, a11, a12, a13, a14)) → wpX_atom ψ (nI (lo_rr id), 0, D, sh, ex, a1, a2, a3, a4, a5, a6, a7, a8, a9, a10, a11, a12, a13, a14) x0 x4 x5 := by
      intro ψ h
      rw [e0, e4, e5]
      exact lo_atomT hq hu hv hQ h
    refine at1 _ (fun c3 c4 hQ2 => br_f (by rw [h8]; decide) (lo_135 (q := q) (u := u) (v := v) ⟨by omega, hu, hv, hw, hQ2, hL, hd, by rw [if_pos hq]; exact h8⟩ (Or.inl ⟨hq, e0, e4, e5, h8⟩) rfl hP))
  · refine lo_atomF c (br_t h8 (lo_135 (q := 4) (u := 0) (v := 0) ⟨by omega, by omega, by omega, hw, hQ, hL, hd, by rw [if_neg (by omega)]; exact h8⟩ (Or.inr ⟨rfl, c, h8⟩) rfl hP))
theorem lo_89 {z0 : Int32} (hQ : lo_Q 4 0 0 a3 a4) (hL : lo_L 36 (nI 0) a1) (h7 : (lo_in3 x0 x1 x2 ∧ ¬ x3 < 0 ∧ ¬ 10 < x3) ∧ x7 = 1 ∨ ¬ (lo_in3 x0 x1 x2 ∧ ¬ x3 < 0 ∧ ¬ 10 < x3) ∧ x7 = 0) (h8 : (lo_in3 x0 x4 x5 ∧ z0 = 1) ∨ (¬ lo_in3 x0 x4 x5 ∧ z0 = 0)) (hP : post 1 ()) :
    wL_lawOf_89 post mc ms x0 x1 x2 x3 x4 x5 x7 z0 kc ks 0 0 D sh ex a1 a2 a3 a4 a5 a6 a7 a8 a9 a10 a11 a12 a13 a14 := by
  unfold wL_lawOf_89
  rcases h7 with ⟨⟨c, c0, c10⟩, h7⟩ | ⟨c, h7⟩
  · obtain ⟨r, a, b, hr, ha, hb, e0, e1, e2⟩ := lo_in3_of c
    obtain ⟨w, hw, e3⟩ := lo_le3 10 (by omega) c0 c10
    have hid : 9 * r + 3 * a + b < 36 := by omega
    have hrr : lo_rr (9 * r + 3 * a + b) = 1 := if_pos hid
    have ro : ∀ ψ : Int32 → St2 → Prop, (∀ c1, lo_L (9 * r + 3 * a + b) (nI w) c1 → ψ 1 (nI (lo_rr (9 * r + 3 * a + b)), 0, D, sh, ex, c1, a2, a3, a4, a5, a6, a7, a8, a9, a10, a11, a12, a13, a14)) → wpX_row ψ (0, 0, D, sh, ex, a1, a2, a3, a4, a5, a6, a7, a8, a9, a10, a11, a12, a13, a14) x0 x1 x2 x3 := by
      intro ψ h
      rw [e0, e1, e2, e3]
      refine lo_rowT hr ha hb hw hL (fun c1 hc1 => ?_)
      have hh := h c1 hc1
      rw [hrr] at hh
      exact hh
    exact ro _ (fun c1 hc1 => br_f (by rw [h7]; decide) (lo_110 hw hQ hc1 (Or.inl ⟨r, a, b, hr, ha, hb, e0, e1, e2, rfl, e3, h7⟩) h8 rfl hP))
  · have ro : ∀ ψ : Int32 → St2 → Prop, ψ (-1) (nI (lo_rr 36), 0, D, sh, ex, a1, a2, a3, a4, a5, a6, a7, a8, a9, a10, a11, a12, a13, a14) → wpX_row ψ (0, 0, D, sh, ex, a1, a2, a3, a4, a5, a6, a7, a8, a9, a10, a11, a12, a13, a14) x0 x1 x2 x3 := fun ψ h => lo_rowF c h
    exact ro _ (br_t h7 (lo_110 (w := 0) (by omega) hQ hL (Or.inr ⟨rfl, h7⟩) h8 rfl hP))
theorem lo_51 {z0 : Int32} (hQ : lo_Q 4 0 0 a3 a4) (hL : lo_L 36 (nI 0) a1) (h7 : (lo_in3 x0 x1 x2 ∧ ¬ x3 < 0 ∧ ¬ 10 < x3) ∧ z0 = 1 ∨ ¬ (lo_in3 x0 x1 x2 ∧ ¬ x3 < 0 ∧ ¬ 10 < x3) ∧ z0 = 0) (hP : post 1 ()) :
    wL_lawOf_51 post mc ms x0 x1 x2 x3 x4 x5 z0 kc ks 0 0 D sh ex a1 a2 a3 a4 a5 a6 a7 a8 a9 a10 a11 a12 a13 a14 := by
  have hT : lo_in3 x0 x4 x5 → wL_lawOf_89 post mc ms x0 x1 x2 x3 x4 x5 z0 1 kc ks 0 0 D sh ex a1 a2 a3 a4 a5 a6 a7 a8 a9 a10 a11 a12 a13 a14 := fun t => lo_89 hQ hL h7 (Or.inl ⟨t, rfl⟩) hP
  have hF : ¬ lo_in3 x0 x4 x5 → wL_lawOf_89 post mc ms x0 x1 x2 x3 x4 x5 z0 0 kc ks 0 0 D sh ex a1 a2 a3 a4 a5 a6 a7 a8 a9 a10 a11 a12 a13 a14 := fun t => lo_89 hQ hL h7 (Or.inr ⟨t, rfl⟩) hP
  unfold wL_lawOf_51 wL_lawOf_88
  exact br_c (fun h => hF (fun t => t.1 h)) (fun h0 => br_c (fun h => hF (fun t => t.2.1 h)) (fun h1 => br_c (fun h => hF (fun t => t.2.2.1 h)) (fun h2 =>
    br_c (fun h => hF (fun t => t.2.2.2.1 h)) (fun h3 => br_c (fun h => hF (fun t => t.2.2.2.2.1 h)) (fun h4 => br_c (fun h => hF (fun t => t.2.2.2.2.2 h)) (fun h5 => hT ⟨h0, h1, h2, h3, h4, h5⟩))))))
end
theorem lo_lawOf {post : Int32 → St0 → Prop} {p0 p1 p2 p3 p4 p5 : Int32} (hP : post 1 ()) : wpL_lawOf post 344 5504 () p0 p1 p2 p3 p4 p5 := by
  unfold wpL_lawOf wL_lawOf_50
  refine ⟨by omega, by omega, 14, 560, by omega, by omega, lo_init (by omega) (by omega) (fun a1 a2 a3 a4 a5 a6 a7 a8 a9 a10 a11 a12 a13 a14 hL hQ => ?_)⟩
  have hT : (lo_in3 p0 p1 p2 ∧ ¬ p3 < 0 ∧ ¬ 10 < p3) → wL_lawOf_51 post 344 5504 p0 p1 p2 p3 p4 p5 1 (1 + 14) (19 + 560) 0 0 0 0 0 a1 a2 a3 a4 a5 a6 a7 a8 a9 a10 a11 a12 a13 a14 := fun t => lo_51 hQ hL (Or.inl ⟨t, rfl⟩) hP
  have hF : ¬ (lo_in3 p0 p1 p2 ∧ ¬ p3 < 0 ∧ ¬ 10 < p3) → wL_lawOf_51 post 344 5504 p0 p1 p2 p3 p4 p5 0 (1 + 14) (19 + 560) 0 0 0 0 0 a1 a2 a3 a4 a5 a6 a7 a8 a9 a10 a11 a12 a13 a14 := fun t => lo_51 hQ hL (Or.inr ⟨t, rfl⟩) hP
  exact br_c (fun h => hF (fun t => t.1.1 h)) (fun h0 => br_c (fun h => hF (fun t => t.1.2.1 h)) (fun h1 => br_c (fun h => hF (fun t => t.1.2.2.1 h)) (fun h2 =>
    br_c (fun h => hF (fun t => t.1.2.2.2.1 h)) (fun h3 => br_c (fun h => hF (fun t => t.1.2.2.2.2.1 h)) (fun h4 => br_c (fun h => hF (fun t => t.1.2.2.2.2.2 h)) (fun h5 =>
    br_c (fun h => hF (fun t => t.2.1 h)) (fun h6 => br_c (fun h => hF (fun t => t.2.2 h)) (fun h7 => hT ⟨⟨h0, h1, h2, h3, h4, h5⟩, h6, h7⟩))))))))
theorem lo_cell {post : Int32 → Prop} {L k : Nat} {xs : Nat → Int32} (hL : L ≤ 6) (hk : k < 6) (H : ∀ r, post r) : wpL_cellAt post L xs () (nI k) :=
  pk_le L k (fun _ => H _) (fun t => ⟨pk_in k L t, H _⟩)
theorem i_vc (xs : Nat → Int32) (L : Nat) (hL : L ≤ 6) : wpL_law (fun r => r = 1) L xs := by
  unfold wpL_law
  refine lo_cell (k := 0) hL (by omega) (fun r1 => lo_cell (k := 1) hL (by omega) (fun r2 => lo_cell (k := 2) hL (by omega) (fun r3 => lo_cell (k := 3) hL (by omega) (fun r4 => lo_cell (k := 4) hL (by omega) (fun r5 => lo_cell (k := 5) hL (by omega) (fun r6 => ?_))))))
  exact ⟨344, 5504, by omega, by omega, lo_lawOf rfl⟩
end
