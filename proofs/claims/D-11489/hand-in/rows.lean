section
/-! tables of the field and pure facts over them -/
def rm_pwL : List Nat := [1, 2, 4, 8, 16, 5, 10, 20, 13, 26, 17, 7, 14, 28, 29, 31, 27, 19, 3, 6, 12, 24, 21, 15, 30, 25, 23, 11, 22, 9, 18, 1, 2, 4, 8, 16, 5, 10, 20, 13, 26, 17, 7, 14, 28, 29, 31, 27, 19, 3, 6, 12, 24, 21, 15, 30, 25, 23, 11, 22, 9, 18]
def rm_lgL : List Nat := [0, 0, 1, 18, 2, 5, 19, 11, 3, 29, 6, 27, 20, 8, 12, 23, 4, 10, 30, 17, 7, 22, 28, 26, 21, 25, 9, 16, 13, 14, 24, 15]
def rm_pw (j : Nat) : Nat := rm_pwL.getD j 0
def rm_lg (j : Nat) : Nat := rm_lgL.getD j 0
/-- the product and the quotient, on naturals below 32 -/
def rm_m (x y : Nat) : Nat := if x = 0 then 0 else if y = 0 then 0 else rm_pw (rm_lg x + rm_lg y)
def rm_d (x y : Nat) : Nat := if x = 0 then 0 else rm_pw (rm_lg x + 31 - rm_lg y)
def rm_fr (v : Nat) : Nat → Nat
  | 0 => v
  | i + 1 => rm_m (rm_fr v i) (rm_fr v i)
theorem rm_lg_le : ∀ x, x < 32 → rm_lg x ≤ 30 := by decide +kernel
theorem rm_m_lt : ∀ x, x < 32 → ∀ y, y < 32 → rm_m x y < 32 := by decide +kernel
theorem rm_d_lt : ∀ x, x < 32 → ∀ y, y < 32 → rm_d x y < 32 := by decide +kernel
theorem rm_d_m : ∀ x, x < 32 → x ≠ 0 → rm_d (rm_m x x) x = x := by decide +kernel
theorem rm_m_0l (y : Nat) : rm_m 0 y = 0 := if_pos rfl
theorem rm_m_0r (x : Nat) : rm_m x 0 = 0 := by
  unfold rm_m
  by_cases h : x = 0
  · rw [if_pos h]
  · rw [if_neg h, if_pos rfl]
theorem rm_m_nz {x y : Nat} (hx : x ≠ 0) (hy : y ≠ 0) : rm_m x y = rm_pw (rm_lg x + rm_lg y) := by
  unfold rm_m
  rw [if_neg hx, if_neg hy]
theorem rm_d_0 (y : Nat) : rm_d 0 y = 0 := if_pos rfl
theorem rm_d_nz {x y : Nat} (hx : x ≠ 0) : rm_d x y = rm_pw (rm_lg x + 31 - rm_lg y) := by
  unfold rm_d
  rw [if_neg hx]
theorem rm_fr_lt {v : Nat} (hv : v < 32) : ∀ i, rm_fr v i < 32
  | 0 => hv
  | i + 1 => rm_m_lt _ (rm_fr_lt hv i) _ (rm_fr_lt hv i)
theorem rm_fr_0 : ∀ i, rm_fr 0 i = 0
  | 0 => rfl
  | i + 1 => by
    show rm_m (rm_fr 0 i) (rm_fr 0 i) = 0
    rw [rm_fr_0 i]
    exact rm_m_0l 0
/-! int32 facts -/
theorem rm_xor (a b : Nat) : nI a ^^^ nI b = nI (a ^^^ b) := by
  apply Int32.toBitVec_inj.1
  show BitVec.ofNat 32 a ^^^ BitVec.ofNat 32 b = BitVec.ofNat 32 (a ^^^ b)
  apply BitVec.eq_of_getLsbD_eq
  intro i hi
  simp [hi]
theorem rm_xlt {a b : Nat} (ha : a < 32) (hb : b < 32) : a ^^^ b < 32 := Nat.xor_lt_two_pow (n := 5) ha hb
theorem rm_sh : ∀ i, i < 5 → (1 : Int32) <<< (nI i &&& 31) = nI (2 ^ i) := by decide +kernel
theorem rm_sh_lt : ∀ i, i < 5 → 2 ^ i < 32 := by decide +kernel
/-- bit b of x is set, as the code asks it -/
def rm_B (x : Int32) (b : Nat) : Prop := ((x >>> (nI b &&& 31)) &&& 1) = 1
theorem rm_B0 : ∀ b, b < 5 → ¬ ((((0 : Int32) >>> (nI b &&& 31)) &&& 1) = 1) := by decide +kernel
theorem rm_Bex : ∀ v, v < 32 → v ≠ 0 → ¬ ∀ b, b < 5 → ¬ (((nI v >>> (nI b &&& 31)) &&& 1) = 1) := by decide +kernel
theorem rm_m1lt : ∀ r, r < 6 → nI r + (-1) < nI r := by decide +kernel
theorem rm_m1n : ¬ (0 : Int32) ≤ -1 := by decide
theorem rm_m1l : (-1 : Int32) < 0 := by decide
theorem rm_and7 : ∀ i, i < 5 → (nI i &&& 7) = nI i := by decide +kernel
theorem rm_ix {r c x y : Nat} (hc : c < 6) (hy : y < 6) : r * 6 + c = x * 6 + y ↔ r = x ∧ c = y := by omega
theorem rm_nI6 (r c : Nat) : nI r * 6 + nI c = nI (r * 6 + c) := by
  show nI r * nI 6 + nI c = _
  rw [pk_mul, nI_add]
/-- a loop that counts down from e; V: the goal at the state that it starts in -/
theorem rm_loopD {σ : Type} {V : Nat → Prop} (W : Nat → Nat → σ → Prop) (I : Nat → σ → Prop) (e : Nat) (s : σ) (hV : ∀ n, W n e s → V n) (h : I e s) (hx : ∀ n s, I 0 s → W (n + 1) 0 s)
    (hs : ∀ n i s, I (i + 1) s → (∀ s', I i s' → W n i s') → W (n + 1) (i + 1) s) : ∃ n, V n := ⟨e + 1, hV _ (pk_loopD W I hx hs e s h)⟩
end
section
/-! walks of the methods that change nothing -/
def rm_T (a1 a2 : Nat → Int32) : Prop := (∀ j, j < 62 → a1 j = nI (rm_pw j)) ∧ (∀ j, j < 32 → j ≠ 0 → a2 j = nI (rm_lg j))
theorem rm_mul {post : Int32 → Prop} {f0_k f0_t : Int32} {a1 a2 a3 a4 a5 a6 a7 a8 : Nat → Int32} {x y : Int32} (v w : Nat) (hT : rm_T a1 a2) (hv : v < 32) (hw : w < 32) (hx : x = nI v) (hy : y = nI w) (H : post (nI (rm_m v w))) : wpX_mul post (f0_k, f0_t, a1, a2, a3, a4, a5, a6, a7, a8) x y := by
  subst hx hy
  unfold wpX_mul
  refine pk_eq v 0 (fun z => ?_) (fun z => pk_eq w 0 (fun z2 => ?_) (fun z2 => ?_))
  · rw [z, rm_m_0l] at H
    exact H
  · rw [z2, rm_m_0r] at H
    exact H
  · have l1 := rm_lg_le v hv
    have l2 := rm_lg_le w hw
    refine ⟨pk_in v 32 hv, pk_in w 32 hw, ?_⟩
    rw [nI_clamp (show v < 2 ^ 31 by omega), nI_clamp (show w < 2 ^ 31 by omega), hT.2 v hv z, hT.2 w hw z2, nI_add]
    refine ⟨vp_in_nI (by omega) (by omega), ?_⟩
    rw [nI_clamp (show rm_lg v + rm_lg w < 2 ^ 31 by omega), hT.1 _ (by omega), ← rm_m_nz z z2]
    exact H
theorem rm_div {post : Int32 → Prop} {f0_k f0_t : Int32} {a1 a2 a3 a4 a5 a6 a7 a8 : Nat → Int32} {x y : Int32} (v w : Nat) (hT : rm_T a1 a2) (hv : v < 32) (hw : w < 32) (hw0 : w ≠ 0) (hx : x = nI v) (hy : y = nI w) (H : post (nI (rm_d v w))) : wpX_div post (f0_k, f0_t, a1, a2, a3, a4, a5, a6, a7, a8) x y := by
  subst hx hy
  unfold wpX_div
  refine pk_eq v 0 (fun z => ?_) (fun z => ?_)
  · rw [z, rm_d_0] at H
    exact H
  · have l1 := rm_lg_le v hv
    have l2 := rm_lg_le w hw
    have e31 : nI (rm_lg v) + 31 = nI (rm_lg v + 31) := nI_add (rm_lg v) 31
    refine ⟨pk_in v 32 hv, pk_in w 32 hw, ?_⟩
    rw [nI_clamp (show v < 2 ^ 31 by omega), nI_clamp (show w < 2 ^ 31 by omega), hT.2 v hv z, hT.2 w hw hw0, e31, pk_sub (show rm_lg w ≤ rm_lg v + 31 by omega)]
    refine ⟨vp_in_nI (by omega) (by omega), ?_⟩
    rw [nI_clamp (show rm_lg v + 31 - rm_lg w < 2 ^ 31 by omega), hT.1 _ (by omega), ← rm_d_nz z]
    exact H
theorem rm_frob {post : Int32 → Prop} {f0_k f0_t : Int32} {a1 a2 a3 a4 a5 a6 a7 a8 : Nat → Int32} {x y : Int32} (v m : Nat) (hT : rm_T a1 a2) (hv : v < 32) (hm : m < 100) (hx : x = nI v) (hy : y = nI m) (H : post (nI (rm_fr v m))) : wpX_frobenius post (f0_k, f0_t, a1, a2, a3, a4, a5, a6, a7, a8) x y := by
  subst hx hy
  unfold wpX_frobenius
  refine pk_loop (σ := Unit) (fun n i _ => wX_frobenius_5 post (nI m) f0_k f0_t a1 a2 a3 a4 a5 a6 a7 a8 n (nI (rm_fr v i)) (nI i)) (fun _ _ => True) m 0 () (by omega) trivial ?_ ?_
  · intro n s _
    exact pk_le m m (fun _ => H) (fun z => absurd z (by omega))
  · intro n i s hi _ hw
    exact pk_le m i (fun z => absurd z (by omega)) (fun _ => rm_mul (rm_fr v i) (rm_fr v i) hT (rm_fr_lt hv i) (rm_fr_lt hv i) rfl rfl (nm_r (nI_1 i) (hw () trivial)))
theorem rm_value {post : Int32 → Prop} {f0_k f0_t : Int32} {a1 a2 a3 a4 a5 a6 a7 a8 : Nat → Int32} (i : Nat) (hT : rm_T a1 a2) (hi : i < 5) (H : post 0) : wpX_value post (f0_k, f0_t, a1, a2, a3, a4, a5, a6, a7, a8) 0 0 (nI i) := by
  have g := rm_sh_lt i hi
  have q := rm_m_lt _ g _ g
  unfold wpX_value
  refine nm_r (rm_sh i hi) (rm_mul (2 ^ i) (2 ^ i) hT g g rfl rfl (rm_mul 0 (2 ^ i) hT (by omega) g rfl rfl (rm_mul 0 (rm_m (2 ^ i) (2 ^ i)) hT (by omega) q rfl rfl ?_)))
  show post (nI (rm_m 0 (2 ^ i)) ^^^ nI (rm_m 0 (rm_m (2 ^ i) (2 ^ i))))
  rw [rm_m_0l, rm_m_0l, rm_xor]
  exact H
theorem rm_out0 {post : Int32 → Prop} {u : St2} {x : Int32} (h0 : ¬ x < 0) (h1 : x ≤ 31) (H : post 0) : wpX_outside post u x := by
  obtain ⟨f0_k, f0_t, a1, a2, a3, a4, a5, a6, a7, a8⟩ := u
  exact br_f h0 (br_t h1 H)
theorem rm_out1 {post : Int32 → Prop} {u : St2} {x : Int32} (h : x < 0 ∨ 31 < x) (H : post 1) : wpX_outside post u x := by
  obtain ⟨f0_k, f0_t, a1, a2, a3, a4, a5, a6, a7, a8⟩ := u
  exact br_c (fun _ => H) (fun z => br_f (Int32.not_le.mpr (h.resolve_left z)) H)
theorem rm_bad {post : Int32 → Prop} {u : St2} (H : post 0) : wpX_badMessage post u 0 0 := by
  obtain ⟨f0_k, f0_t, a1, a2, a3, a4, a5, a6, a7, a8⟩ := u
  unfold wpX_badMessage
  exact rm_out0 (by decide) (by decide) (br_t rfl (rm_out0 (by decide) (by decide) (br_t rfl (br_c (fun _ => br_t rfl H) (fun _ => H)))))
end
section
/-! clearBit, distance(0, 0), rank -/
theorem rm_cb5 {post : Int32 → St2 → Prop} {f0_k f0_t : Int32} {a1 a2 a3 a4 a5 a6 a7 a8 : Nat → Int32} (r b : Nat) (hr : r ≤ 4)
    (H0 : (∀ i, r ≤ i → i < 5 → ¬ rm_B (a4 i) b) → post 0 (f0_k, f0_t, a1, a2, a3, a4, a5, a6, a7, a8))
    (H1 : ∀ p, r ≤ p → p < 5 → rm_B (a4 p) b → ∃ fu, wX_clearBit_74 post (nI b) (a4 p) f0_k f0_t fu (nI (r + 1)) a1 a2 a3 (upd (upd a4 p (a4 r)) r (a4 p)) a5 a6 a7 a8) :
    wpX_clearBit post (f0_k, f0_t, a1, a2, a3, a4, a5, a6, a7, a8) (nI r) (nI b) := by
  unfold wpX_clearBit
  refine rm_loopD (σ := Int32) (fun n i s => wX_clearBit_5 post (nI r) (nI b) f0_k f0_t a1 a2 a3 a4 a5 a6 a7 a8 n s (nI (r + i) + (-1)))
    (fun i s => r + i ≤ 5 ∧ ((s = -1 ∧ ∀ q, r + i ≤ q → q < 5 → ¬ rm_B (a4 q) b) ∨ (∃ p, s = nI p ∧ r ≤ p ∧ p < 5 ∧ rm_B (a4 p) b))) (5 - r) (-1) ?_ ?_ ?_ ?_
  · intro n hn
    have e : nI (r + (5 - r)) + (-1) = 4 := by
      rw [show r + (5 - r) = 4 + 1 by omega, pk_m1]
      rfl
    have key' : wX_clearBit_5 post (nI r) (nI b) f0_k f0_t a1 a2 a3 a4 a5 a6 a7 a8 n (-1) (nI (r + (5 - r)) + (-1)) := hn
    rw [e] at key'
    exact key'
  · exact ⟨by omega, Or.inl ⟨rfl, fun q q1 q2 => absurd q1 (by omega)⟩⟩
  · intro n s h
    have l := rm_m1lt r (by omega)
    refine br_t l ?_
    rcases h.2 with ⟨e, h2⟩ | ⟨p, e, p1, p2, p3⟩
    · subst e
      exact br_f rm_m1n (H0 h2)
    · subst e
      have ep := nI_clamp (show p < 2 ^ 31 by omega)
      have er := nI_clamp (show r < 2 ^ 31 by omega)
      rw [ep, er]
      exact br_t (nI_pos' (by omega)) ⟨pk_in p 5 p2, nm_e ⟨pk_in r 5 (by omega), pk_in p 5 p2, nm_e ⟨pk_in r 5 (by omega), nm_e (nm_r (nI_1 r) (H1 p p1 p2 p3))⟩⟩⟩
  · intro n i s h hw
    show wX_clearBit_5 post (nI r) (nI b) f0_k f0_t a1 a2 a3 a4 a5 a6 a7 a8 (n + 1) s (nI (r + i + 1) + (-1))
    have h1 : r + (i + 1) ≤ 5 := h.1
    rw [pk_m1]
    refine pk_lt (r + i) r (fun z => absurd z (by omega)) (fun _ => ⟨pk_in (r + i) 5 (by omega), ?_⟩)
    rw [nI_clamp (show r + i < 2 ^ 31 by omega)]
    refine br_c (fun z => nm_e (hw _ ⟨by omega, Or.inr ⟨r + i, rfl, by omega, by omega, z⟩⟩)) (fun z => nm_e (hw _ ⟨by omega, ?_⟩))
    rcases h.2 with ⟨e, h2⟩ | h2
    · refine Or.inl ⟨e, fun q q1 q2 => ?_⟩
      by_cases eq : q = r + i
      · rw [eq]
        exact z
      · exact h2 q (by omega) q2
    · exact Or.inr h2
theorem rm_cb74 {post : Int32 → St2 → Prop} {f0_k f0_t : Int32} {a1 a2 a3 a4 a5 a6 a7 a8 : Nat → Int32} (b : Nat) (A : Int32) (hb : b < 5) (hA : rm_B A b)
    (h : ∀ q, 1 ≤ q → q < 5 → a4 q = 0 ∨ a4 q = A)
    (H : ∀ a4', (∀ q, 1 ≤ q → q < 5 → a4' q = 0) → post 1 (f0_k, f0_t, a1, a2, a3, a4', a5, a6, a7, a8)) :
    ∃ fu, wX_clearBit_74 post (nI b) A f0_k f0_t fu (nI 1) a1 a2 a3 a4 a5 a6 a7 a8 := by
  refine pk_loop (fun n i s => wX_clearBit_74 post (nI b) A f0_k f0_t n (nI i) a1 a2 a3 s a5 a6 a7 a8) (fun i s => 1 ≤ i ∧ (∀ q, 1 ≤ q → q < i → s q = 0) ∧ (∀ q, i ≤ q → q < 5 → s q = 0 ∨ s q = A)) 5 1 a4 (by omega) ⟨by omega, fun q q1 q2 => absurd q1 (by omega), h⟩ ?_ ?_
  · intro n s hs
    exact pk_le 5 5 (fun _ => H s hs.2.1) (fun z => absurd z (by omega))
  · intro n i s hi hs hw
    obtain ⟨h1, h2, h3⟩ := hs
    refine pk_le 5 i (fun z => absurd z (by omega)) (fun _ => ⟨pk_in i 5 hi, ?_⟩)
    rw [nI_clamp (show i < 2 ^ 31 by omega)]
    refine br_c (fun z => ⟨pk_in i 5 hi, pk_in i 5 hi, nm_e (nm_r (nI_1 i) (hw _ ⟨by omega, fun q q1 q2 => ?_, fun q q1 q2 => ?_⟩))⟩) (fun z => nm_r (nI_1 i) (hw _ ⟨by omega, fun q q1 q2 => ?_, fun q q1 q2 => h3 q (by omega) q2⟩))
    · by_cases e : q = i
      · rw [e, pk_us]
        rcases h3 i (by omega) hi with e0 | e0
        · rw [e0] at z
          exact absurd z (rm_B0 b hb)
        · rw [e0]
          exact Int32.xor_self
      · rw [pk_un e]
        exact h2 q q1 (by omega)
    · rw [pk_un (show q ≠ i by omega)]
      exact h3 q (by omega) q2
    · by_cases e : q = i
      · rw [e]
        rcases h3 i (by omega) hi with e0 | e0
        · exact e0
        · rw [e0] at z
          exact absurd hA z
      · exact h2 q q1 (by omega)
/-- the word: 0 everywhere (d = 0), or v at some place and v or 0 at the others (d = 1) -/
def rm_W (d v : Nat) (a : Nat → Int32) : Prop := v < 32 ∧ v ≠ 0 ∧ ((d = 0 ∧ ∀ q, q < 5 → a q = 0) ∨ (d = 1 ∧ (∀ q, q < 5 → a q = 0 ∨ a q = nI v) ∧ ∃ q, q < 5 ∧ a q = nI v))
/-- the turns of the loop over the bits: rank s.1, rows s.2 -/
def rm_D (d v i : Nat) (s : Nat × (Nat → Int32)) : Prop := (d = 0 ∧ s.1 = 0 ∧ ∀ q, q < 5 → s.2 q = 0) ∨ (d = 1 ∧ s.1 = 0 ∧ (∀ q, q < 5 → s.2 q = 0 ∨ s.2 q = nI v) ∧ (∃ q, q < 5 ∧ s.2 q = nI v) ∧ ∀ b, b < i → ¬ rm_B (nI v) b) ∨ (d = 1 ∧ s.1 = 1 ∧ ∀ q, 1 ≤ q → q < 5 → s.2 q = 0)
theorem rm_D0 {d v : Nat} {a b : Nat → Int32} (h : rm_W d v a) (hb : ∀ q, q < 5 → b q = a q) : rm_D d v 0 (0, b) := by
  rcases h.2.2 with ⟨e, h1⟩ | ⟨e, h1, q, q1, q2⟩
  · exact Or.inl ⟨e, rfl, fun q q1 => (hb q q1).trans (h1 q q1)⟩
  · refine Or.inr (Or.inl ⟨e, rfl, fun p p1 => ?_, ⟨q, q1, (hb q q1).trans q2⟩, fun b hb => absurd hb (by omega)⟩)
    show b p = 0 ∨ b p = nI v
    rw [hb p p1]
    exact h1 p p1
theorem rm_dist53 {post : Int32 → St2 → Prop} {f0_k f0_t : Int32} {a1 a2 a3 a4 a5 a6 a7 a8 : Nat → Int32} (d v : Nat) (hv : v < 32) (hv0 : v ≠ 0) (h : rm_D d v 0 (0, a4))
    (H : ∀ a4', post (nI d) (f0_k, f0_t, a1, a2, a3, a4', a5, a6, a7, a8)) :
    ∃ fu, wX_distance_53 post fu 0 0 f0_k f0_t a1 a2 a3 a4 a5 a6 a7 a8 := by
  refine pk_loop (fun n i s => wX_distance_53 post n (nI s.1) (nI i) f0_k f0_t a1 a2 a3 s.2 a5 a6 a7 a8) (fun i s => rm_D d v i s) 5 0 ((0, a4) : Nat × (Nat → Int32)) (by omega) h ?_ ?_
  · intro n s hs
    refine pk_le 5 5 (fun _ => ?_) (fun z => absurd z (by omega))
    have e : s.1 = d := by
      rcases hs with ⟨e, e1, _⟩ | ⟨e, e1, _, _, e4⟩ | ⟨e, e1, _⟩
      · omega
      · exact absurd e4 (rm_Bex v hv hv0)
      · omega
    rw [e]
    exact H s.2
  · intro n i s hi hs hw
    refine pk_le 5 i (fun z => absurd z (by omega)) (fun _ => ?_)
    have hr : s.1 ≤ 4 := by
      rcases hs with ⟨e, e1, _⟩ | ⟨e, e1, _⟩ | ⟨e, e1, _⟩ <;> omega
    refine rm_cb5 s.1 i hr (fun hz => ?_) (fun p p1 p2 p3 => ?_)
    · refine br_t rfl (nm_r (nI_1 i) (hw s ?_))
      rcases hs with e | ⟨e, e1, e2, ⟨q, q1, q2⟩, e4⟩ | e
      · exact Or.inl e
      · refine Or.inr (Or.inl ⟨e, e1, e2, ⟨q, q1, q2⟩, fun b hb => ?_⟩)
        by_cases eb : b = i
        · rw [eb, ← q2]
          exact hz q (by omega) q1
        · exact e4 b (by omega)
      · exact Or.inr (Or.inr e)
    · rcases hs with ⟨e, e1, e2⟩ | ⟨e, e1, e2, e3, e4⟩ | ⟨e, e1, e2⟩
      · rw [e2 p p2] at p3
        exact absurd p3 (rm_B0 i hi)
      · have ep : s.2 p = nI v := by
          rcases e2 p p2 with z | z
          · rw [z] at p3
            exact absurd p3 (rm_B0 i hi)
          · exact z
        rw [ep] at p3
        rw [e1, ep]
        refine rm_cb74 i (nI v) hi p3 (fun q q1 q2 => ?_) (fun a4' h4 => ?_)
        · rw [pk_un (show q ≠ 0 by omega)]
          by_cases eq : q = p
          · rw [eq, pk_us]
            exact e2 0 (by omega)
          · rw [pk_un eq]
            exact e2 q q2
        · exact br_f (by decide) (nm_r (nI_1 0) (nm_r (nI_1 i) (hw (1, a4') (Or.inr (Or.inr ⟨e, rfl, h4⟩)))))
      · rw [e2 p (by omega) p2] at p3
        exact absurd p3 (rm_B0 i hi)
theorem rm_dist {post : Int32 → St2 → Prop} {f0_k f0_t : Int32} {a1 a2 a3 a4 a5 a6 a7 a8 : Nat → Int32} {x y : Int32} (d v : Nat) (hT : rm_T a1 a2) (h : rm_W d v a3) (hx : x = 0) (hy : y = 0)
    (H : ∀ a4', post (nI d) (f0_k, f0_t, a1, a2, a3, a4', a5, a6, a7, a8)) :
    wpX_distance post (f0_k, f0_t, a1, a2, a3, a4, a5, a6, a7, a8) x y := by
  subst hx hy
  unfold wpX_distance
  refine rm_bad (br_t rfl ?_)
  refine pk_loop (fun n i s => wX_distance_13 post 0 0 f0_k f0_t n (nI i) a1 a2 a3 s a5 a6 a7 a8) (fun i s => ∀ q, q < i → s q = a3 q) 5 0 a4 (by omega) (fun q q1 => absurd q1 (by omega)) ?_ ?_
  · intro n s hs
    exact pk_le 5 5 (fun _ => rm_dist53 d v h.1 h.2.1 (rm_D0 h hs) H) (fun z => absurd z (by omega))
  · intro n i s hi hs hw
    refine pk_le 5 i (fun z => absurd z (by omega)) (fun _ => rm_value i hT hi ?_)
    refine ⟨pk_in i 5 hi, pk_in i 5 hi, ?_⟩
    rw [nI_clamp (show i < 2 ^ 31 by omega)]
    refine nm_e (nm_r (nI_1 i) (hw _ (fun q q1 => ?_)))
    by_cases e : q = i
    · rw [e, pk_us]
      exact Int32.xor_zero
    · rw [pk_un e]
      exact hs q (by omega)
theorem rm_rank {post : Int32 → St2 → Prop} {f0_k f0_t : Int32} {a1 a2 a3 a4 a5 a6 a7 a8 : Nat → Int32} (d v : Nat) (hT : rm_T a1 a2) (h : rm_W d v a3)
    (H : ∀ a4', post (nI d) (f0_k, f0_t, a1, a2, a3, a4', a5, a6, a7, a8)) :
    wpX_rank post (f0_k, f0_t, a1, a2, a3, a4, a5, a6, a7, a8) := by
  unfold wpX_rank
  exact rm_dist d v hT h rfl rfl (fun a4' => H a4')
end
section
/-! the cells: 5 rows of 6; row operations -/
def rm_P (C : Nat → Nat → Nat) (a : Nat → Int32) : Prop := ∀ r, r < 5 → ∀ c, c < 6 → C r c < 32 ∧ a (r * 6 + c) = nI (C r c)
theorem rm_P_ext {C C' : Nat → Nat → Nat} {a : Nat → Int32} (h : rm_P C a) (e : ∀ r, r < 5 → ∀ c, c < 6 → C' r c = C r c) : rm_P C' a := by
  intro r hr c hc
  rw [e r hr c hc]
  exact h r hr c hc
/-- one cell written -/
def rm_set (C : Nat → Nat → Nat) (x y v : Nat) : Nat → Nat → Nat := fun r c => if r = x ∧ c = y then v else C r c
theorem rm_set_s {C : Nat → Nat → Nat} {x y v : Nat} : rm_set C x y v x y = v := if_pos ⟨rfl, rfl⟩
theorem rm_set_n {C : Nat → Nat → Nat} {x y v r c : Nat} (h : ¬ (r = x ∧ c = y)) : rm_set C x y v r c = C r c := if_neg h
theorem rm_P_set {C : Nat → Nat → Nat} {a : Nat → Int32} {x y v : Nat} (h : rm_P C a) (hy : y < 6) (hv : v < 32) : rm_P (rm_set C x y v) (upd a (x * 6 + y) (nI v)) := by
  intro r hr c hc
  by_cases e : r = x ∧ c = y
  · rw [e.1, e.2, rm_set_s, pk_us]
    exact ⟨hv, rfl⟩
  · rw [rm_set_n e, pk_un (fun z => e ((rm_ix hc hy).mp z))]
    exact h r hr c hc
theorem rm_P_u {C C' : Nat → Nat → Nat} {a : Nat → Int32} {x y v k : Nat} {w : Int32} (h : rm_P C a) (hy : y < 6) (hv : v < 32) (hk : k = x * 6 + y) (hw : w = nI v) (e : ∀ r, r < 5 → ∀ c, c < 6 → C' r c = rm_set C x y v r c) : rm_P C' (upd a k w) := by
  subst hk hw
  exact rm_P_ext (rm_P_set h hy hv) e
/-- the exchange of rows i and j in the columns below n -/
def rm_sw (C : Nat → Nat → Nat) (i j n : Nat) : Nat → Nat → Nat := fun r c => if c < n then (if r = i then C j c else if r = j then C i c else C r c) else C r c
theorem rm_swapRows {post : St2 → Prop} {f0_k f0_t : Int32} {a1 a2 a3 a4 a5 a6 a7 a8 : Nat → Int32} {C : Nat → Nat → Nat} (i j : Nat) (hi : i < 5) (hj : j < 5) (h : rm_P C a5)
    (H : ∀ a5', rm_P (rm_sw C i j 6) a5' → post (f0_k, f0_t, a1, a2, a3, a4, a5', a6, a7, a8)) :
    wpX_swapRows post (f0_k, f0_t, a1, a2, a3, a4, a5, a6, a7, a8) (nI i) (nI j) := by
  unfold wpX_swapRows
  refine pk_loop (fun n c s => wX_swapRows_2 post (nI i) (nI j) f0_k f0_t n (nI c) a1 a2 a3 a4 s a6 a7 a8) (fun c s => rm_P (rm_sw C i j c) s) 6 0 a5 (by omega) (rm_P_ext h (fun r _ c _ => if_neg (by omega))) ?_ ?_
  · intro n s hs
    exact pk_le 6 6 (fun _ => H s hs) (fun z => absurd z (by omega))
  · intro n c s hc hs hw
    show wX_swapRows_2 post (nI i) (nI j) f0_k f0_t (n + 1) (nI c) a1 a2 a3 a4 s a6 a7 a8
    refine pk_le 6 c (fun z => absurd z (by omega)) (fun _ => ?_)
    rw [rm_nI6, rm_nI6, nI_clamp (show i * 6 + c < 2 ^ 31 by omega), nI_clamp (show j * 6 + c < 2 ^ 31 by omega)]
    have ei : rm_sw C i j c i c = C i c := if_neg (by omega)
    have ej : rm_sw C i j c j c = C j c := if_neg (by omega)
    have gi := hs i hi c hc
    have gj := hs j hj c hc
    rw [ei] at gi
    rw [ej] at gj
    rw [gi.2, gj.2]
    refine ⟨vp_in_nI (by omega) (by omega), nm_e ⟨vp_in_nI (by omega) (by omega), vp_in_nI (by omega) (by omega), nm_e ⟨vp_in_nI (by omega) (by omega), nm_e (nm_r (nI_1 c) (hw _ ?_))⟩⟩⟩
    refine rm_P_ext (rm_P_set (rm_P_set hs hc gj.1) hc gi.1) (fun r hr c' hc' => ?_)
    by_cases e : c' = c
    · subst e
      by_cases e1 : r = j
      · subst e1
        rw [rm_set_s]
        unfold rm_sw
        rw [if_pos (show c' < c' + 1 by omega)]
        by_cases e2 : r = i
        · rw [if_pos e2, e2]
        · rw [if_neg e2, if_pos rfl]
      · rw [rm_set_n (fun z => e1 z.1)]
        by_cases e2 : r = i
        · subst e2
          rw [rm_set_s]
          unfold rm_sw
          rw [if_pos (show c' < c' + 1 by omega), if_pos rfl]
        · rw [rm_set_n (fun z => e2 z.1)]
          unfold rm_sw
          rw [if_pos (show c' < c' + 1 by omega), if_neg e2, if_neg e1, if_neg (show ¬ c' < c' by omega)]
    · rw [rm_set_n (fun z => e z.2), rm_set_n (fun z => e z.2)]
      unfold rm_sw
      by_cases e1 : c' < c
      · rw [if_pos e1, if_pos (show c' < c + 1 by omega)]
      · rw [if_neg e1, if_neg (show ¬ c' < c + 1 by omega)]
/-- row i over w, in the columns below n -/
def rm_dr (C : Nat → Nat → Nat) (i w n : Nat) : Nat → Nat → Nat := fun r c => if r = i ∧ c < n then rm_d (C r c) w else C r c
theorem rm_divideRow {post : St2 → Prop} {f0_k f0_t : Int32} {a1 a2 a3 a4 a5 a6 a7 a8 : Nat → Int32} {C : Nat → Nat → Nat} {y : Int32} (i w : Nat) (hT : rm_T a1 a2) (hi : i < 5) (hw32 : w < 32) (hw0 : w ≠ 0) (hy : y = nI w) (h : rm_P C a5)
    (H : ∀ a5', rm_P (rm_dr C i w 6) a5' → post (f0_k, f0_t, a1, a2, a3, a4, a5', a6, a7, a8)) :
    wpX_divideRow post (f0_k, f0_t, a1, a2, a3, a4, a5, a6, a7, a8) (nI i) y := by
  subst hy
  unfold wpX_divideRow
  refine pk_loop (fun n c s => wX_divideRow_2 post (nI i) (nI w) f0_k f0_t n (nI c) a1 a2 a3 a4 s a6 a7 a8) (fun c s => rm_P (rm_dr C i w c) s) 6 0 a5 (by omega) (rm_P_ext h (fun r _ c _ => if_neg (by omega))) ?_ ?_
  · intro n s hs
    exact pk_le 6 6 (fun _ => H s hs) (fun z => absurd z (by omega))
  · intro n c s hc hs hw
    show wX_divideRow_2 post (nI i) (nI w) f0_k f0_t (n + 1) (nI c) a1 a2 a3 a4 s a6 a7 a8
    refine pk_le 6 c (fun z => absurd z (by omega)) (fun _ => ?_)
    rw [rm_nI6, nI_clamp (show i * 6 + c < 2 ^ 31 by omega)]
    have ei : rm_dr C i w c i c = C i c := if_neg (by omega)
    have gi := hs i hi c hc
    rw [ei] at gi
    refine ⟨vp_in_nI (by omega) (by omega), rm_div (C i c) w hT gi.1 hw32 hw0 gi.2 rfl ⟨vp_in_nI (by omega) (by omega), nm_e (nm_r (nI_1 c) (hw _ ?_))⟩⟩
    refine rm_P_ext (rm_P_set hs hc (rm_d_lt _ gi.1 _ hw32)) (fun r hr c' hc' => ?_)
    by_cases e : r = i ∧ c' = c
    · rw [e.1, e.2, rm_set_s]
      exact if_pos ⟨rfl, by omega⟩
    · rw [rm_set_n e]
      unfold rm_dr
      by_cases e1 : r = i ∧ c' < c
      · rw [if_pos e1, if_pos ⟨e1.1, by omega⟩]
      · rw [if_neg e1, if_neg (by omega)]
/-- w times row i added to row j, in the columns below n -/
def rm_ar (C : Nat → Nat → Nat) (i j w n : Nat) : Nat → Nat → Nat := fun r c => if r = j ∧ c < n then C r c ^^^ rm_m (C i c) w else C r c
theorem rm_addRow {post : St2 → Prop} {f0_k f0_t : Int32} {a1 a2 a3 a4 a5 a6 a7 a8 : Nat → Int32} {C : Nat → Nat → Nat} {y : Int32} (i j w : Nat) (hT : rm_T a1 a2) (hi : i < 5) (hj : j < 5) (hij : i ≠ j) (hw32 : w < 32) (hy : y = nI w) (h : rm_P C a5)
    (H : ∀ a5', rm_P (rm_ar C i j w 6) a5' → post (f0_k, f0_t, a1, a2, a3, a4, a5', a6, a7, a8)) :
    wpX_addRow post (f0_k, f0_t, a1, a2, a3, a4, a5, a6, a7, a8) (nI i) (nI j) y := by
  subst hy
  unfold wpX_addRow
  refine pk_loop (fun n c s => wX_addRow_3 post (nI i) (nI j) (nI w) f0_k f0_t n (nI c) a1 a2 a3 a4 s a6 a7 a8) (fun c s => rm_P (rm_ar C i j w c) s) 6 0 a5 (by omega) (rm_P_ext h (fun r _ c _ => if_neg (by omega))) ?_ ?_
  · intro n s hs
    exact pk_le 6 6 (fun _ => H s hs) (fun z => absurd z (by omega))
  · intro n c s hc hs hw
    show wX_addRow_3 post (nI i) (nI j) (nI w) f0_k f0_t (n + 1) (nI c) a1 a2 a3 a4 s a6 a7 a8
    refine pk_le 6 c (fun z => absurd z (by omega)) (fun _ => ?_)
    rw [rm_nI6, rm_nI6, nI_clamp (show i * 6 + c < 2 ^ 31 by omega), nI_clamp (show j * 6 + c < 2 ^ 31 by omega)]
    have ei : rm_ar C i j w c i c = C i c := if_neg (by omega)
    have ej : rm_ar C i j w c j c = C j c := if_neg (by omega)
    have gi := hs i hi c hc
    have gj := hs j hj c hc
    rw [ei] at gi
    rw [ej] at gj
    have gm := rm_m_lt _ gi.1 _ hw32
    refine ⟨vp_in_nI (by omega) (by omega), rm_mul (C i c) w hT gi.1 hw32 gi.2 rfl ⟨vp_in_nI (by omega) (by omega), vp_in_nI (by omega) (by omega), nm_r (by rw [gj.2, rm_xor]) (nm_r (nI_1 c) (hw _ ?_))⟩⟩
    refine rm_P_ext (rm_P_set hs hc (rm_xlt gj.1 gm)) (fun r hr c' hc' => ?_)
    by_cases e : r = j ∧ c' = c
    · rw [e.1, e.2, rm_set_s]
      exact if_pos ⟨rfl, by omega⟩
    · rw [rm_set_n e]
      unfold rm_ar
      by_cases e1 : r = j ∧ c' < c
      · rw [if_pos e1, if_pos ⟨e1.1, by omega⟩]
      · rw [if_neg e1, if_neg (by omega)]
/-- the rows below n cleared by row r at column c -/
def rm_cl (D : Nat → Nat → Nat) (r c n : Nat) : Nat → Nat → Nat := fun i c' => if i ≠ r ∧ i < n then D i c' ^^^ rm_m (D r c') (D i c) else D i c'
/-- reduce -/
def rm_rd (C : Nat → Nat → Nat) (r c : Nat) : Nat → Nat → Nat := rm_cl (rm_dr C r (C r c) 6) r c 5
theorem rm_reduce {post : St2 → Prop} {f0_k f0_t : Int32} {a1 a2 a3 a4 a5 a6 a7 a8 : Nat → Int32} {C : Nat → Nat → Nat} (r c : Nat) (hT : rm_T a1 a2) (hr : r < 5) (hc : c < 6) (hp : C r c ≠ 0) (h : rm_P C a5)
    (H : ∀ a5', rm_P (rm_rd C r c) a5' → post (f0_k, f0_t, a1, a2, a3, a4, a5', a6, a7, a8)) :
    wpX_reduce post (f0_k, f0_t, a1, a2, a3, a4, a5, a6, a7, a8) (nI r) (nI c) := by
  unfold wpX_reduce
  have g := h r hr c hc
  rw [rm_nI6, nI_clamp (show r * 6 + c < 2 ^ 31 by omega)]
  refine ⟨vp_in_nI (by omega) (by omega), rm_divideRow r (C r c) hT hr g.1 hp g.2 h (fun b5 hb => ?_)⟩
  show ∃ fu18 : Nat, wX_reduce_18 post (nI r) (nI c) fu18 0 f0_k f0_t a1 a2 a3 a4 b5 a6 a7 a8
  unfold rm_rd at H
  generalize rm_dr C r (C r c) 6 = D at H hb
  refine pk_loop (fun n i s => wX_reduce_18 post (nI r) (nI c) n (nI i) f0_k f0_t a1 a2 a3 a4 s a6 a7 a8) (fun i s => rm_P (rm_cl D r c i) s) 5 0 b5 (by omega) (rm_P_ext hb (fun r _ c _ => if_neg (by omega))) ?_ ?_
  · intro n s hs
    exact pk_le 5 5 (fun _ => H s hs) (fun z => absurd z (by omega))
  · intro n i s hi hs hw
    show wX_reduce_18 post (nI r) (nI c) (n + 1) (nI i) f0_k f0_t a1 a2 a3 a4 s a6 a7 a8
    refine pk_le 5 i (fun z => absurd z (by omega)) (fun _ => ?_)
    rw [rm_nI6, nI_clamp (show i * 6 + c < 2 ^ 31 by omega)]
    have ei : ∀ c', rm_cl D r c i i c' = D i c' := fun c' => if_neg (by omega)
    have er : ∀ c', rm_cl D r c i r c' = D r c' := fun c' => if_neg (fun z => z.1 rfl)
    have gi := hs i hi c hc
    rw [ei] at gi
    refine pk_eq i r (fun z => nm_r (nI_1 i) (hw s (rm_P_ext hs (fun q _ c' _ => ?_)))) (fun z => ⟨vp_in_nI (by omega) (by omega), ?_⟩)
    · subst z
      unfold rm_cl
      by_cases e1 : q ≠ i ∧ q < i
      · rw [if_pos e1, if_pos ⟨e1.1, by omega⟩]
      · rw [if_neg e1, if_neg (by omega)]
    · rw [gi.2]
      refine pk_eq (D i c) 0 (fun z2 => nm_r (nI_1 i) (hw s (rm_P_ext hs (fun q _ c' _ => ?_)))) (fun z2 => ⟨vp_in_nI (by omega) (by omega), rm_addRow r i (D i c) hT hr hi (fun w => z w.symm) gi.1 rfl hs (fun a5' h5 => nm_r (nI_1 i) (hw a5' (rm_P_ext h5 (fun q _ c' hc' => ?_))))⟩) rfl rfl (by have := gi.1; omega)
      · by_cases e : q = i
        · subst e
          rw [ei]
          unfold rm_cl
          rw [if_pos ⟨z, by omega⟩, z2, rm_m_0r, Nat.xor_zero]
        · unfold rm_cl
          by_cases e1 : q ≠ r ∧ q < i
          · rw [if_pos e1, if_pos ⟨e1.1, by omega⟩]
          · rw [if_neg e1, if_neg (by omega)]
      · unfold rm_ar
        by_cases e : q = i
        · subst e
          rw [if_pos ⟨rfl, hc'⟩, ei, er]
          unfold rm_cl
          rw [if_pos ⟨z, by omega⟩]
        · rw [if_neg (fun w => e w.1)]
          unfold rm_cl
          by_cases e1 : q ≠ r ∧ q < i
          · rw [if_pos e1, if_pos ⟨e1.1, by omega⟩]
          · rw [if_neg e1, if_neg (by omega)]
end
section
/-! pure facts of the row operations -/
theorem rm_sw_r {C : Nat → Nat → Nat} {p r c : Nat} (hc : c < 6) : rm_sw C p r 6 r c = C p c := by
  unfold rm_sw
  rw [if_pos hc]
  by_cases e : r = p
  · rw [if_pos e, e]
  · rw [if_neg e, if_pos rfl]
theorem rm_sw_n {C : Nat → Nat → Nat} {p r i c : Nat} (hp : i ≠ p) (hr : i ≠ r) : rm_sw C p r 6 i c = C i c := by
  unfold rm_sw
  by_cases hc : c < 6
  · rw [if_pos hc, if_neg hp, if_neg hr]
  · rw [if_neg hc]
theorem rm_sw_ex (C : Nat → Nat → Nat) (p r i : Nat) : ∃ q, (q = p ∨ q = r ∨ q = i) ∧ ∀ c, c < 6 → rm_sw C p r 6 i c = C q c := by
  by_cases e : i = r
  · subst e
    exact ⟨p, Or.inl rfl, fun c hc => rm_sw_r hc⟩
  · by_cases e2 : i = p
    · refine ⟨r, Or.inr (Or.inl rfl), fun c hc => ?_⟩
      unfold rm_sw
      rw [if_pos hc, if_pos e2]
    · exact ⟨i, Or.inr (Or.inr rfl), fun c hc => rm_sw_n e2 e⟩
/-- a column in which row r is 0 stays as it is -/
theorem rm_rd_z {C : Nat → Nat → Nat} {r c e : Nat} (hz : C r e = 0) (i : Nat) : rm_rd C r c i e = C i e := by
  unfold rm_rd
  generalize C r c = w
  have hD : ∀ i, rm_dr C r w 6 i e = C i e := by
    intro i
    unfold rm_dr
    by_cases h : i = r ∧ e < 6
    · rw [if_pos h, h.1, hz, rm_d_0]
    · rw [if_neg h]
  unfold rm_cl
  by_cases h : i ≠ r ∧ i < 5
  · rw [if_pos h, hD, hD, hz, rm_m_0l, Nat.xor_zero]
  · rw [if_neg h, hD]
/-- the first column of a word that isn't 0 -/
theorem rm_rd_1 {C : Nat → Nat → Nat} {v : Nat} (hv : v < 32) (hv0 : v ≠ 0) (h0 : C 0 0 = v) (h1 : C 0 1 = rm_m v v) (h : ∀ i, i < 5 → (C i 0 = 0 ∧ C i 1 = 0) ∨ (C i 0 = v ∧ C i 1 = rm_m v v)) : rm_rd C 0 0 0 1 = v ∧ ∀ i, 1 ≤ i → i < 5 → rm_rd C 0 0 i 1 = 0 := by
  unfold rm_rd
  rw [h0]
  have e01 : rm_dr C 0 v 6 0 1 = v := by
    unfold rm_dr
    rw [if_pos ⟨rfl, by omega⟩, h1, rm_d_m v hv hv0]
  have en : ∀ i c, 1 ≤ i → rm_dr C 0 v 6 i c = C i c := fun i c hi => if_neg (by omega)
  unfold rm_cl
  constructor
  · rw [if_neg (fun z => z.1 rfl), e01]
  · intro i hi hi5
    rw [if_pos ⟨by omega, hi5⟩, e01, en i 1 hi, en i 0 hi]
    rcases h i hi5 with ⟨z0, z1⟩ | ⟨z0, z1⟩
    · rw [z0, z1, rm_m_0r, Nat.xor_zero]
    · rw [z0, z1, Nat.xor_self]
/-! the search of a pivot, then the two branches behind it -/
theorem rm_s41 {post : Int32 → St2 → Prop} {J : Int32 → Int32 → Int32 → Int32 → Int32 → (Nat → Int32) → (Nat → Int32) → (Nat → Int32) → (Nat → Int32) → (Nat → Int32) → (Nat → Int32) → (Nat → Int32) → (Nat → Int32) → Prop} {x1 x3 f0_k f0_t : Int32} {a1 a2 a3 a4 a5 a6 a7 a8 : Nat → Int32} {C : Nat → Nat → Nat} (r c : Nat) (hT : rm_T a1 a2) (hr : r ≤ 5) (hc : c < 6) (h : rm_P C a5)
    (H0 : (∀ i, r ≤ i → i < 5 → C i c = 0) → (0 ≤ x3 → J (nI r) x3 (nI (c + 1)) f0_k f0_t a1 a2 a3 a4 a5 a6 a7 a8) ∧ (¬ 0 ≤ x3 → J (nI r) (nI c) (nI (c + 1)) f0_k f0_t a1 a2 a3 a4 a5 a6 a7 a8))
    (H1 : ∀ p a5', r ≤ p → p < 5 → C p c ≠ 0 → rm_P (rm_rd (rm_sw C p r 6) r c) a5' → J (nI (r + 1)) x3 (nI (c + 1)) f0_k f0_t a1 a2 a3 a4 a5' (upd a6 c (nI r)) a7 a8) :
    ∃ fu, wX_solve_41 post J x1 (nI r) x3 (nI c) f0_k f0_t a1 a2 a3 a4 a5 a6 a7 a8 fu (-1) 4 := by
  refine rm_loopD (σ := Int32) (fun n i s => wX_solve_41 post J x1 (nI r) x3 (nI c) f0_k f0_t a1 a2 a3 a4 a5 a6 a7 a8 n s (nI (r + i) + (-1)))
    (fun i s => r + i ≤ 5 ∧ ((s = -1 ∧ ∀ q, r + i ≤ q → q < 5 → C q c = 0) ∨ (∃ p, s = nI p ∧ r ≤ p ∧ p < 5 ∧ C p c ≠ 0))) (5 - r) (-1) ?_ ?_ ?_ ?_
  · intro n hn
    have e : nI (r + (5 - r)) + (-1) = 4 := by
      rw [show r + (5 - r) = 4 + 1 by omega, pk_m1]
      rfl
    have key' : wX_solve_41 post J x1 (nI r) x3 (nI c) f0_k f0_t a1 a2 a3 a4 a5 a6 a7 a8 n (-1) (nI (r + (5 - r)) + (-1)) := hn
    rw [e] at key'
    exact key'
  · exact ⟨by omega, Or.inl ⟨rfl, fun q q1 q2 => absurd q1 (by omega)⟩⟩
  · intro n s hs
    have l := rm_m1lt r (by omega)
    refine br_t l ?_
    rcases hs.2 with ⟨e, h2⟩ | ⟨p, e, p1, p2, p3⟩
    · subst e
      exact br_t rm_m1l ⟨fun z => nm_r (nI_1 c) ((H0 h2).1 z), fun z => nm_r (nI_1 c) ((H0 h2).2 z)⟩
    · subst e
      refine br_f (nI_pos (by omega)) (rm_swapRows p r p2 (by omega) h (fun b5 hb => rm_reduce r c hT (by omega) hc ?_ hb (fun a5' h5 => ⟨pk_in c 6 hc, ?_⟩)))
      · rw [rm_sw_r hc]
        exact p3
      · rw [nI_clamp (show c < 2 ^ 31 by omega)]
        exact nm_e (nm_r (nI_1 r) (nm_r (nI_1 c) (H1 p a5' p1 p2 p3 h5)))
  · intro n i s hs hw
    show wX_solve_41 post J x1 (nI r) x3 (nI c) f0_k f0_t a1 a2 a3 a4 a5 a6 a7 a8 (n + 1) s (nI (r + i + 1) + (-1))
    have h1 : r + (i + 1) ≤ 5 := hs.1
    have g := h (r + i) (by omega) c hc
    rw [pk_m1]
    refine pk_lt (r + i) r (fun z => absurd z (by omega)) (fun _ => ?_)
    rw [rm_nI6, nI_clamp (show (r + i) * 6 + c < 2 ^ 31 by omega), g.2]
    refine ⟨vp_in_nI (by omega) (by omega), pk_eq (C (r + i) c) 0 (fun z => nm_e (hw _ ⟨by omega, ?_⟩)) (fun z => nm_e (hw _ ⟨by omega, Or.inr ⟨r + i, rfl, by omega, by omega, z⟩⟩)) rfl rfl (by have := g.1; omega)⟩
    rcases hs.2 with ⟨e, h2⟩ | h2
    · refine Or.inl ⟨e, fun q q1 q2 => ?_⟩
      by_cases eq : q = r + i
      · rw [eq]
        exact z
      · exact h2 q (by omega) q2
    · exact Or.inr h2
/-- what the roots are behind solve: the first isn't 0, those behind the second are -/
def rm_G (n : Nat) (a : Nat → Int32) : Prop := (∃ u, u < 32 ∧ u ≠ 0 ∧ a 0 = nI u) ∧ (∃ u, u < 32 ∧ a 1 = nI u) ∧ ∀ j, 2 ≤ j → j < n → a j = 0
/-- behind column d: free is d, that column is 0 from row d on -/
def rm_L (d v c : Nat) (x2 x3 : Int32) (a5 a6 : Nat → Int32) : Prop := ∃ (r : Nat) (C : Nat → Nat → Nat), x2 = nI r ∧ x3 = nI d ∧ d ≤ r ∧ r ≤ 5 ∧ rm_P C a5 ∧ (∀ i, d ≤ i → i < 5 → C i d = 0) ∧ (d = 1 → C 0 1 = v ∧ a6 0 = nI 0) ∧ ∀ j, d ≤ j → j < c → a6 j = -1 ∨ ∃ p, d ≤ p ∧ p < 5 ∧ a6 j = nI p
/-- the equations as they are entered -/
def rm_E (d v : Nat) (C : Nat → Nat → Nat) : Prop := (d = 0 ∧ ∀ i, i < 5 → C i 0 = 0) ∨ (d = 1 ∧ (∀ i, i < 5 → (C i 0 = 0 ∧ C i 1 = 0) ∨ (C i 0 = v ∧ C i 1 = rm_m v v)) ∧ ∃ i, i < 5 ∧ C i 0 = v)
/-- the turns of the loop over the columns -/
def rm_I (d v c : Nat) (x2 x3 : Int32) (a5 a6 : Nat → Int32) : Prop := (c = 0 ∧ x2 = nI 0 ∧ x3 = -1 ∧ ∃ C, rm_P C a5 ∧ rm_E d v C) ∨ (c = 1 ∧ d = 1 ∧ x2 = nI 1 ∧ x3 = -1 ∧ a6 0 = nI 0 ∧ ∃ C, rm_P C a5 ∧ C 0 1 = v ∧ ∀ i, 1 ≤ i → i < 5 → C i 1 = 0) ∨ (d < c ∧ rm_L d v c x2 x3 a5 a6)
theorem rm_s128 {post : Int32 → St2 → Prop} {f0_k f0_t x2 x3 : Int32} {a1 a2 a3 a4 a5 a6 a7 a8 : Nat → Int32} (d v n : Nat) (hv : v < 32) (hv0 : v ≠ 0) (hd : d ≤ 1) (hn : 5 ≤ n) (hn6 : n ≤ 6) (h : rm_L d v n x2 x3 a5 a6)
    (H : ∀ a7', rm_G n a7' → post 1 (f0_k, f0_t, a1, a2, a3, a4, a5, a6, a7', a8)) :
    ∃ fu, wX_solve_128 post (nI n) x3 f0_k f0_t fu 0 a1 a2 a3 a4 a5 a6 a7 a8 := by
  obtain ⟨r, C, e2, e3, hr, hr5, hP, hz, h1, hj⟩ := h
  subst e3
  refine pk_loop (fun m i s => wX_solve_128 post (nI n) (nI d) f0_k f0_t m (nI i) a1 a2 a3 a4 a5 a6 s a8) (fun i s => (∀ j, d ≤ j → j < i → s j = 0) ∧ (d = 1 → 0 < i → s 0 = nI v)) n 0 a7 (by omega) ⟨fun j _ q => absurd q (by omega), fun _ q => absurd q (by omega)⟩ ?_ ?_
  · intro m s hs
    refine pk_le n n (fun _ => ⟨pk_in d 6 (by omega), ?_⟩) (fun z => absurd z (by omega))
    rw [nI_clamp (show d < 2 ^ 31 by omega)]
    refine nm_e (H _ ?_)
    by_cases e : d = 0
    · subst e
      refine ⟨⟨1, by omega, by omega, pk_us⟩, ⟨0, by omega, ?_⟩, fun j j1 j2 => ?_⟩
      · rw [pk_un (by omega)]
        exact hs.1 1 (by omega) (by omega)
      · rw [pk_un (by omega)]
        exact hs.1 j (by omega) j2
    · have e' : d = 1 := by omega
      subst e'
      refine ⟨⟨v, hv, hv0, ?_⟩, ⟨1, by omega, pk_us⟩, fun j j1 j2 => ?_⟩
      · rw [pk_un (by omega)]
        exact hs.2 rfl (by omega)
      · rw [pk_un (by omega)]
        exact hs.1 j (by omega) j2
  · intro m i s hi hs hw
    refine pk_le n i (fun z => absurd z (by omega)) (fun _ => ⟨pk_in i 6 (by omega), ?_⟩)
    rw [nI_clamp (show i < 2 ^ 31 by omega)]
    by_cases e : d ≤ i
    · have put : (∀ j, d ≤ j → j < i + 1 → upd s i 0 j = 0) ∧ (d = 1 → 0 < i + 1 → upd s i 0 0 = nI v) := by
        refine ⟨fun j j1 j2 => ?_, fun q _ => ?_⟩
        · by_cases ej : j = i
          · rw [ej, pk_us]
          · rw [pk_un ej]
            exact hs.1 j j1 (by omega)
        · rw [pk_un (by omega)]
          exact hs.2 q (by omega)
      rcases hj i e hi with q | ⟨p, p1, p2, q⟩
      · rw [q]
        exact br_f rm_m1n ⟨pk_in i 6 (by omega), nm_e (nm_r (nI_1 i) (hw _ put))⟩
      · have g := (hP p p2 d (by omega)).2
        rw [hz p p1 p2] at g
        rw [q, rm_nI6, nI_clamp (show p * 6 + d < 2 ^ 31 by omega), g]
        exact br_t (nI_pos' (by omega)) ⟨pk_in i 6 (by omega), vp_in_nI (by omega) (by omega), pk_in i 6 (by omega), nm_e (nm_r (nI_1 i) (hw _ put))⟩
    · have ed : d = 1 := by omega
      have ei : i = 0 := by omega
      subst ed ei
      have g := (hP 0 (by omega) 1 (by omega)).2
      rw [(h1 rfl).1] at g
      rw [(h1 rfl).2, rm_nI6, nI_clamp (show 0 * 6 + 1 < 2 ^ 31 by omega), g]
      exact br_t (nI_pos' (by omega)) ⟨pk_in 0 6 (by omega), vp_in_nI (by omega) (by omega), pk_in 0 6 (by omega), nm_e (nm_r (nI_1 0) (hw _ ⟨fun j j1 j2 => absurd j1 (by omega), fun _ _ => pk_us⟩))⟩
theorem rm_solve {post : Int32 → St2 → Prop} {f0_k f0_t : Int32} {a1 a2 a3 a4 a5 a6 a7 a8 : Nat → Int32} {C : Nat → Nat → Nat} (d v n : Nat) (hT : rm_T a1 a2) (hv : v < 32) (hv0 : v ≠ 0) (hd : d ≤ 1) (hn : 5 ≤ n) (hn6 : n ≤ 6) (en : ((2 * f0_t) + f0_k) + 1 = nI n) (hP : rm_P C a5) (hE : rm_E d v C)
    (H : ∀ a5' a6' a7' C', rm_P C' a5' → rm_G n a7' → post 1 (f0_k, f0_t, a1, a2, a3, a4, a5', a6', a7', a8)) :
    wpX_solve post (f0_k, f0_t, a1, a2, a3, a4, a5, a6, a7, a8) := by
  unfold wpX_solve
  refine nm_r en ?_
  refine pk_loop (fun m c s => wX_solve_21 post (nI n) m s.1 s.2.1 (nI c) f0_k f0_t a1 a2 a3 a4 s.2.2.1 s.2.2.2 a7 a8) (fun c s => rm_I d v c s.1 s.2.1 s.2.2.1 s.2.2.2) n 0 ((0, -1, a5, a6) : Int32 × Int32 × (Nat → Int32) × (Nat → Int32)) (by omega) (Or.inl ⟨rfl, rfl, rfl, C, hP, hE⟩) ?_ ?_
  · intro m s hs
    refine pk_le n n (fun _ => ?_) (fun z => absurd z (by omega))
    rcases hs with ⟨e, _⟩ | ⟨e, _⟩ | ⟨_, hl⟩
    · omega
    · omega
    · have e3 : s.2.1 = nI d := by
        obtain ⟨r, C, _, e3, _⟩ := hl
        exact e3
      have hp : ∃ C', rm_P C' s.2.2.1 := by
        obtain ⟨r, C, _, _, _, _, hp, _⟩ := hl
        exact ⟨C, hp⟩
      obtain ⟨C', hp⟩ := hp
      refine br_t ?_ (rm_s128 d v n hv hv0 hd hn hn6 hl (fun a7' hg => H _ _ a7' C' hp hg))
      rw [e3]
      exact nI_pos' (by omega)
  · intro m c s hc hs hw
    obtain ⟨x2, x3, b5, b6⟩ := s
    have hw' : ∀ (y2 y3 : Int32) (c5 c6 : Nat → Int32), rm_I d v (c + 1) y2 y3 c5 c6 → wX_solve_21 post (nI n) m y2 y3 (nI (c + 1)) f0_k f0_t a1 a2 a3 a4 c5 c6 a7 a8 := fun y2 y3 c5 c6 hh => hw (y2, y3, c5, c6) hh
    have hs' : rm_I d v c x2 x3 b5 b6 := hs
    show wX_solve_21 post (nI n) (m + 1) x2 x3 (nI c) f0_k f0_t a1 a2 a3 a4 b5 b6 a7 a8
    refine pk_le n c (fun z => absurd z (by omega)) (fun _ => ⟨pk_in c 6 (by omega), ?_⟩)
    rw [nI_clamp (show c < 2 ^ 31 by omega)]
    refine nm_e ?_
    rcases hs' with ⟨ec, e2, e3, D, hp, he⟩ | ⟨ec, ed, e2, e3, e6, D, hp, hd0, hd1⟩ | ⟨hdc, r, D, e2, e3, hdr, hr5, hp, hz, h1, hj⟩
    · subst ec e2 e3
      refine rm_s41 0 0 hT (by omega) (by omega) hp (fun hz => ⟨fun z => absurd z rm_m1n, fun _ => hw' _ _ _ _ ?_⟩) (fun p c5 p1 p2 p3 h5 => hw' _ _ _ _ ?_)
      · rcases he with ⟨ed, _⟩ | ⟨ed, he1, q, q1, q2⟩
        · subst ed
          refine Or.inr (Or.inr ⟨by omega, 0, D, rfl, rfl, by omega, by omega, hp, hz, fun q => absurd q (by omega), fun j j1 j2 => Or.inl ?_⟩)
          rw [show j = 0 by omega]
          exact pk_us
        · exact absurd (q2.symm.trans (hz q (by omega) q1)) hv0
      · rcases he with ⟨ed, he1⟩ | ⟨ed, he1, q, q1, q2⟩
        · exact absurd (he1 p p2) p3
        · have hsw : ∀ i, i < 5 → (rm_sw D p 0 6 i 0 = 0 ∧ rm_sw D p 0 6 i 1 = 0) ∨ (rm_sw D p 0 6 i 0 = v ∧ rm_sw D p 0 6 i 1 = rm_m v v) := by
            intro i hi
            obtain ⟨k, k1, k2⟩ := rm_sw_ex D p 0 i
            rw [k2 0 (by omega), k2 1 (by omega)]
            exact he1 k (by omega)
          have hp0 : D p 0 = v ∧ D p 1 = rm_m v v := by
            rcases he1 p p2 with z | z
            · exact absurd z.1 p3
            · exact z
          have f := rm_rd_1 hv hv0 ((rm_sw_r (by omega)).trans hp0.1) ((rm_sw_r (by omega)).trans hp0.2) hsw
          exact Or.inr (Or.inl ⟨rfl, ed, rfl, rfl, pk_us, _, h5, f.1, f.2⟩)
    · subst ec ed e2 e3
      refine rm_s41 1 1 hT (by omega) (by omega) hp (fun hz => ⟨fun z => absurd z rm_m1n, fun _ => hw' _ _ _ _ ?_⟩) (fun p c5 p1 p2 p3 h5 => absurd (hd1 p p1 p2) p3)
      refine Or.inr (Or.inr ⟨by omega, 1, D, rfl, rfl, by omega, by omega, hp, hd1, fun _ => ⟨hd0, ?_⟩, fun j j1 j2 => Or.inl ?_⟩)
      · rw [pk_un (by omega)]
        exact e6
      · rw [show j = 1 by omega]
        exact pk_us
    · subst e2 e3
      refine rm_s41 r c hT hr5 (by omega) hp (fun hz0 => ⟨fun _ => hw' _ _ _ _ (Or.inr (Or.inr ⟨by omega, r, D, rfl, rfl, hdr, hr5, hp, hz, fun q => ⟨(h1 q).1, ?_⟩, fun j j1 j2 => ?_⟩)), fun z => absurd (nI_pos' (by omega)) z⟩) (fun p c5 p1 p2 p3 h5 => hw' _ _ _ _ (Or.inr (Or.inr ⟨by omega, r + 1, _, rfl, rfl, by omega, by omega, h5, fun i i1 i2 => ?_, fun q => ⟨?_, ?_⟩, fun j j1 j2 => ?_⟩)))
      · rw [pk_un (by omega)]
        exact (h1 q).2
      · by_cases ej : j = c
        · rw [ej, pk_us]
          exact Or.inl rfl
        · rw [pk_un ej]
          exact hj j j1 (by omega)
      · have hsr : rm_sw D p r 6 r d = 0 := (rm_sw_r (by omega)).trans (hz p (by omega) p2)
        rw [rm_rd_z hsr]
        obtain ⟨k, k1, k2⟩ := rm_sw_ex D p r i
        rw [k2 d (by omega)]
        exact hz k (by omega) (by omega)
      · have hsr : rm_sw D p r 6 r 1 = 0 := by
          rw [rm_sw_r (by omega)]
          have := hz p (by omega) p2
          rw [q] at this
          exact this
        rw [rm_rd_z hsr, rm_sw_n (by omega) (by omega)]
        exact (h1 q).1
      · rw [pk_un (by omega), pk_un (by omega)]
        exact (h1 q).2
      · by_cases ej : j = c
        · rw [ej, pk_us]
          exact Or.inr ⟨r, hdr, by omega, rfl⟩
        · rw [pk_un ej, pk_un ej]
          exact hj j j1 (by omega)
end
section
/-! equation, divide, decode and what calls them -/
theorem rm_kt {kk tt : Nat} (h : kk + tt = 3) (h1 : 1 ≤ tt) (h2 : 1 ≤ kk) : (tt = 1 ∧ kk = 2) ∨ (tt = 2 ∧ kk = 1) := by omega
theorem rm_en {kk tt : Nat} (h : kk + tt = 3) (h1 : 1 ≤ tt) (h2 : 1 ≤ kk) : ((2 * nI tt) + nI kk) + 1 = nI (tt + 4) := by
  rcases rm_kt h h1 h2 with ⟨rfl, rfl⟩ | ⟨rfl, rfl⟩ <;> decide
theorem rm_equation {post : St2 → Prop} {kk tt : Nat} {a1 a2 a3 a4 a5 a6 a7 a8 : Nat → Int32} {C : Nat → Nat → Nat} (i w : Nat) (hT : rm_T a1 a2) (hk : kk + tt = 3) (ht : 1 ≤ tt) (hk1 : 1 ≤ kk) (hi : i < 5) (hw32 : w < 32) (h3 : a3 i = nI w) (h : rm_P C a5)
    (H : ∀ a5' D, rm_P D a5' → (∀ r, r < 5 → r ≠ i → ∀ c, c < 6 → D r c = C r c) → D i 0 = w → D i 1 = rm_m w w → post (nI kk, nI tt, a1, a2, a3, a4, a5', a6, a7, a8)) :
    wpX_equation post (nI kk, nI tt, a1, a2, a3, a4, a5, a6, a7, a8) (nI i) := by
  unfold wpX_equation
  have e3 : nI tt + nI kk = nI 3 := by rw [nI_add, show tt + kk = 3 by omega]
  refine pk_loop (fun n a s => wX_equation_2 post (nI i) (nI kk) (nI tt) n (nI a) a1 a2 a3 a4 s a6 a7 a8) (fun a s => ∃ D, rm_P D s ∧ (∀ r, r < 5 → r ≠ i → ∀ c, c < 6 → D r c = C r c) ∧ ∀ c, c < a → D i c = rm_fr w c) (tt + 1) 0 a5 (by omega) ⟨C, h, fun _ _ _ _ _ => rfl, fun c hc => absurd hc (by omega)⟩ ?_ ?_
  · intro n s hs
    obtain ⟨D0, hD0, hr0, hc0⟩ := hs
    refine pk_lt tt (tt + 1) (fun _ => ?_) (fun z => absurd z (by omega))
    refine pk_loop (fun n b s => wX_equation_40 post (nI i) (nI kk) (nI tt) n (nI b) a1 a2 a3 a4 s a6 a7 a8) (fun b s => ∃ D, rm_P D s ∧ (∀ r, r < 5 → r ≠ i → ∀ c, c < 6 → D r c = C r c) ∧ ∀ c, c < 2 → D i c = rm_fr w c) 3 0 s (by omega) ⟨D0, hD0, hr0, fun c hc => hc0 c (by omega)⟩ ?_ ?_
    · intro n s hs
      obtain ⟨D, hD, hr, hc⟩ := hs
      exact pk_le 3 3 (fun _ => H s D hD hr (hc 0 (by omega)) (hc 1 (by omega))) (fun z => absurd z (by omega)) e3
    · intro n b s hb hs hw
      obtain ⟨D, hD, hr, hc⟩ := hs
      have ex : (((nI i * 6) + nI tt) + 1) + nI b = nI (i * 6 + (tt + 1 + b)) := by
        rw [rm_nI6, nI_1, nI_add]
        congr 1
        omega
      refine pk_le 3 b (fun z => absurd z (by omega)) (fun _ => ?_) e3
      rw [rm_sh i hi, ex, nI_clamp (show i * 6 + (tt + 1 + b) < 2 ^ 31 by omega)]
      have f := rm_fr_lt (rm_sh_lt i hi) b
      refine rm_frob (2 ^ i) b hT (rm_sh_lt i hi) (by omega) rfl rfl ⟨vp_in_nI (by omega) (by omega), nm_e (nm_r (nI_1 b) (hw _ ⟨rm_set D i (tt + 1 + b) (rm_fr (2 ^ i) b), rm_P_set hD (by omega) f, fun r r1 r2 c c1 => ?_, fun c c1 => ?_⟩))⟩
      · rw [rm_set_n (fun z => r2 z.1)]
        exact hr r r1 r2 c c1
      · rw [rm_set_n (by omega)]
        exact hc c c1
  · intro n a s ha hs hw
    obtain ⟨D, hD, hr, hc⟩ := hs
    refine pk_lt tt a (fun z => absurd z (by omega)) (fun _ => ⟨pk_in i 5 hi, ?_⟩)
    rw [nI_clamp (show i < 2 ^ 31 by omega), rm_nI6, nI_clamp (show i * 6 + a < 2 ^ 31 by omega)]
    have f := rm_fr_lt hw32 a
    refine rm_frob w a hT hw32 (by omega) h3 rfl ⟨vp_in_nI (by omega) (by omega), nm_e (nm_r (nI_1 a) (hw _ ⟨rm_set D i a (rm_fr w a), rm_P_set hD (by omega) f, fun r r1 r2 c c1 => ?_, fun c c1 => ?_⟩))⟩
    · rw [rm_set_n (fun z => r2 z.1)]
      exact hr r r1 r2 c c1
    · by_cases e : c = a
      · rw [e, rm_set_s]
      · rw [rm_set_n (fun z => e z.2)]
        exact hc c (by omega)
theorem rm_d116 {post : Int32 → St2 → Prop} {J : Int32 → (Nat → Int32) → (Nat → Int32) → (Nat → Int32) → (Nat → Int32) → (Nat → Int32) → (Nat → Int32) → (Nat → Int32) → (Nat → Int32) → Prop} {x3 f0_k f0_t : Int32} {a1 a2 a3 a4 a5 a6 a7 a8 : Nat → Int32} (b u : Nat) (hT : rm_T a1 a2) (hb : b < 2) (hu : u < 32) (hu0 : u ≠ 0) (h7 : a7 0 = nI u) (hx : x3 = nI 0)
    (H : J (nI (b + 1)) a1 a2 a3 a4 a5 a6 a7 (upd a8 b (nI 0))) :
    wX_divide_116 post J (nI 0) (nI b) x3 f0_k f0_t a1 a2 a3 a4 a5 a6 a7 a8 := by
  subst hx
  unfold wX_divide_116
  rw [nI_clamp (show 0 < 2 ^ 31 by omega)]
  refine ⟨pk_in 0 6 (by omega), rm_div 0 u hT (by omega) hu hu0 rfl h7 ?_⟩
  rw [rm_d_0]
  refine rm_frob 0 5 hT (by omega) (by omega) rfl (by decide) ?_
  rw [rm_fr_0]
  refine ⟨pk_in b 2 hb, ?_⟩
  rw [nI_clamp (show b < 2 ^ 31 by omega)]
  exact nm_e (nm_r (nI_1 b) H)
theorem rm_divide {post : Int32 → St2 → Prop} {kk tt : Nat} {a1 a2 a3 a4 a5 a6 a7 a8 : Nat → Int32} (hT : rm_T a1 a2) (hk : kk + tt = 3) (ht : 1 ≤ tt) (hk1 : 1 ≤ kk) (hG : rm_G (tt + 4) a7)
    (H : ∀ a8', a8' 0 = 0 → a8' 1 = 0 → post 1 (nI kk, nI tt, a1, a2, a3, a4, a5, a6, a7, a8')) :
    wpX_divide post (nI kk, nI tt, a1, a2, a3, a4, a5, a6, a7, a8) := by
  obtain ⟨⟨u, hu, hu0, h70⟩, ⟨u1, hu1, h71⟩, h7z⟩ := hG
  unfold wpX_divide
  refine rm_loopD (σ := Int32) (fun n i s => wX_divide_7 post (nI kk) (nI tt) a1 a2 a3 a4 a5 a6 a7 a8 n s (nI i + (-1))) (fun i s => i ≤ tt + 1 ∧ (i = 0 → s = nI 0)) (tt + 1) (-1) ?_ ⟨by omega, fun z => absurd z (by omega)⟩ ?_ ?_
  · intro n hn
    have key' : wX_divide_7 post (nI kk) (nI tt) a1 a2 a3 a4 a5 a6 a7 a8 n (-1) (nI (tt + 1) + (-1)) := hn
    rw [pk_m1] at key'
    exact key'
  · intro n s hs
    have es : s = nI 0 := hs.2 rfl
    subst es
    refine br_t (by decide) (br_t (by decide) (nm_e ?_))
    refine pk_loop (fun n b s => wX_divide_43 post (nI 0) (nI kk) (nI tt) n (nI b) a1 a2 a3 a4 a5 a6 a7 s) (fun b s => s 1 = 0 ∧ (0 < b → s 0 = 0)) kk 0 (upd a8 1 0) (by omega) ⟨pk_us, fun z => absurd z (by omega)⟩ ?_ ?_
    · intro n s hs
      exact pk_le kk kk (fun _ => H s (hs.2 (by omega)) hs.1) (fun z => absurd z (by omega))
    · intro n b s hb hs hw
      have ex : ((nI tt + 1) + nI 0) + nI b = nI (tt + 1 + b) := by
        rw [nI_1, nI_add, nI_add]
      have e0 := h7z (tt + 1 + b) (by omega) (by omega)
      have put : wX_divide_43 post (nI 0) (nI kk) (nI tt) n (nI (b + 1)) a1 a2 a3 a4 a5 a6 a7 (upd s b (nI 0)) := by
        refine hw _ ⟨?_, fun _ => ?_⟩
        · by_cases e : b = 1
          · rw [e, pk_us]
            rfl
          · rw [pk_un (by omega)]
            exact hs.1
        · by_cases e : b = 0
          · rw [e, pk_us]
            rfl
          · rw [pk_un (by omega)]
            exact hs.2 (by omega)
      refine pk_le kk b (fun z => absurd z (by omega)) (fun _ => ?_)
      rw [ex, nI_clamp (show tt + 1 + b < 2 ^ 31 by omega), e0]
      refine ⟨vp_in_nI (by omega) (by omega), nm_e (pk_eq b 1 (fun z => pk_le tt 0 (fun z2 => absurd z2 (by omega)) (fun _ => ?_)) (fun z => rm_d116 b u hT (by omega) hu hu0 h70 rfl put))⟩
      refine rm_frob 0 1 hT (by omega) (by omega) (hs.2 (by omega)) rfl ⟨pk_in 1 6 (by omega), ?_⟩
      rw [rm_fr_0]
      refine rm_mul u1 0 hT hu1 (by omega) h71 rfl (nm_r ?_ (rm_d116 b u hT (by omega) hu hu0 h70 rfl put))
      rw [rm_m_0r]
      rfl
  · intro n i s hs hw
    show wX_divide_7 post (nI kk) (nI tt) a1 a2 a3 a4 a5 a6 a7 a8 (n + 1) s (nI (i + 1) + (-1))
    have h1 : i + 1 ≤ tt + 1 := hs.1
    rw [pk_m1]
    refine br_f (nI_pos (by omega)) ⟨pk_in i 6 (by omega), ?_⟩
    rw [nI_clamp (show i < 2 ^ 31 by omega)]
    refine br_c (fun z => nm_e (hw _ ⟨by omega, fun e => ?_⟩)) (fun z => nm_e (hw _ ⟨by omega, fun e => by rw [e]⟩))
    rw [e, h70] at z
    exact absurd z (nI_ne0 (by omega) (by omega))
theorem rm_W_at {d v : Nat} {a : Nat → Int32} (h : rm_W d v a) (q : Nat) (hq : q < 5) : ∃ w, w < 32 ∧ a q = nI w := by
  rcases h.2.2 with ⟨_, h1⟩ | ⟨_, h1, _⟩
  · exact ⟨0, by omega, h1 q hq⟩
  · rcases h1 q hq with e | e
    · exact ⟨0, by omega, e⟩
    · exact ⟨v, h.1, e⟩
theorem rm_nI_inj {a b : Nat} (ha : a < 32) (hb : b < 32) (h : nI a = nI b) : a = b := (nI_eq (by omega) (by omega)).mp h
theorem rm_WE {d v : Nat} {a : Nat → Int32} {C : Nat → Nat → Nat} (h : rm_W d v a) (hC : ∀ r, r < 5 → ∃ w, w < 32 ∧ a r = nI w ∧ C r 0 = w ∧ C r 1 = rm_m w w) : rm_E d v C := by
  rcases h.2.2 with ⟨e, h1⟩ | ⟨e, h1, q, q1, q2⟩
  · refine Or.inl ⟨e, fun i hi => ?_⟩
    obtain ⟨w, w1, w2, w3, w4⟩ := hC i hi
    rw [w3]
    exact rm_nI_inj w1 (by omega) (w2.symm.trans (h1 i hi))
  · refine Or.inr ⟨e, fun i hi => ?_, q, q1, ?_⟩
    · obtain ⟨w, w1, w2, w3, w4⟩ := hC i hi
      rcases h1 i hi with z | z
      · have ew : w = 0 := rm_nI_inj w1 (by omega) (w2.symm.trans z)
        subst ew
        exact Or.inl ⟨w3, w4⟩
      · have ew : w = v := rm_nI_inj w1 h.1 (w2.symm.trans z)
        subst ew
        exact Or.inr ⟨w3, w4⟩
    · obtain ⟨w, w1, w2, w3, w4⟩ := hC q q1
      rw [w3]
      exact rm_nI_inj w1 h.1 (w2.symm.trans q2)
theorem rm_W_d {d v : Nat} {a : Nat → Int32} (h : rm_W d v a) : d ≤ 1 := by
  rcases h.2.2 with ⟨e, _⟩ | ⟨e, _⟩ <;> omega
theorem rm_decode {post : Int32 → St2 → Prop} {kk tt : Nat} {a1 a2 a3 a4 a5 a6 a7 a8 : Nat → Int32} {C : Nat → Nat → Nat} (d v : Nat) (hT : rm_T a1 a2) (hk : kk + tt = 3) (ht : 1 ≤ tt) (hk1 : 1 ≤ kk) (hP : rm_P C a5) (hW : rm_W d v a3)
    (H : ∀ a4' a5' a6' a7' a8' C', rm_P C' a5' → a8' 0 = 0 → a8' 1 = 0 → post 1 (nI kk, nI tt, a1, a2, a3, a4', a5', a6', a7', a8')) :
    wpX_decode post (nI kk, nI tt, a1, a2, a3, a4, a5, a6, a7, a8) := by
  unfold wpX_decode
  have hd := rm_W_d hW
  refine pk_loop (fun n i s => wX_decode_2 post n (nI i) (nI kk) (nI tt) a1 a2 a3 a4 s a6 a7 a8) (fun i s => ∃ D, rm_P D s ∧ ∀ r, r < i → ∃ w, w < 32 ∧ a3 r = nI w ∧ D r 0 = w ∧ D r 1 = rm_m w w) 5 0 a5 (by omega) ⟨C, hP, fun r hr => absurd hr (by omega)⟩ ?_ ?_
  · intro n s hs
    obtain ⟨D, hD, hr⟩ := hs
    refine pk_le 5 5 (fun _ => ?_) (fun z => absurd z (by omega))
    refine rm_solve d v (tt + 4) hT hW.1 hW.2.1 hd (by omega) (by omega) (rm_en hk ht hk1) hD (rm_WE hW hr) (fun b5 b6 b7 D' hD' hG => ?_)
    refine br_f (by decide) (rm_divide hT hk ht hk1 hG (fun b8 h80 h81 => ?_))
    refine br_f (by decide) (rm_dist d v hT hW h80 h81 (fun b4 => ?_))
    exact pk_lt tt d (fun z => absurd z (by omega)) (fun _ => H b4 b5 b6 b7 b8 D' hD' h80 h81)
  · intro n i s hi hs hw
    obtain ⟨D, hD, hr⟩ := hs
    obtain ⟨w, w1, w2⟩ := rm_W_at hW i hi
    refine pk_le 5 i (fun z => absurd z (by omega)) (fun _ => ?_)
    refine rm_equation i w hT hk ht hk1 hi w1 w2 hD (fun b5 E hE he h0 h1 => nm_r (nI_1 i) (hw b5 ⟨E, hE, fun r r1 => ?_⟩))
    by_cases e : r = i
    · subst e
      exact ⟨w, w1, w2, h0, h1⟩
    · rw [he r (by omega) e 0 (by omega), he r (by omega) e 1 (by omega)]
      exact hr r (by omega)
theorem rm_errors {post : Int32 → St2 → Prop} {kk tt : Nat} {a1 a2 a3 a4 a5 a6 a7 a8 : Nat → Int32} {C : Nat → Nat → Nat} (d v : Nat) (hT : rm_T a1 a2) (hk : kk + tt = 3) (ht : 1 ≤ tt) (hk1 : 1 ≤ kk) (hP : rm_P C a5) (hW : rm_W d v a3)
    (H : ∀ a4' a5' a6' a7' a8' C', rm_P C' a5' → a8' 0 = 0 → a8' 1 = 0 → post (nI d) (nI kk, nI tt, a1, a2, a3, a4', a5', a6', a7', a8')) :
    wpX_errors post (nI kk, nI tt, a1, a2, a3, a4, a5, a6, a7, a8) := by
  unfold wpX_errors
  refine rm_decode d v hT hk ht hk1 hP hW (fun b4 b5 b6 b7 b8 C' hC' h80 h81 => br_f (by decide) (rm_dist d v hT hW h80 h81 (fun c4 => ?_)))
  exact H c4 b5 b6 b7 b8 C' hC' h80 h81
theorem rm_message {post : Int32 → St2 → Prop} {kk tt : Nat} {a1 a2 a3 a4 a5 a6 a7 a8 : Nat → Int32} {C : Nat → Nat → Nat} (d v : Nat) (hT : rm_T a1 a2) (hk : kk + tt = 3) (ht : 1 ≤ tt) (hk1 : 1 ≤ kk) (hP : rm_P C a5) (hW : rm_W d v a3)
    (H : ∀ a4' a5' a6' a7' a8' C', rm_P C' a5' → post 0 (nI kk, nI tt, a1, a2, a3, a4', a5', a6', a7', a8')) :
    wpX_message post (nI kk, nI tt, a1, a2, a3, a4, a5, a6, a7, a8) 0 := by
  unfold wpX_message
  refine br_f (by decide) (pk_lt 0 kk (fun _ => ?_) (fun z => absurd z (by omega)))
  refine rm_decode d v hT hk ht hk1 hP hW (fun b4 b5 b6 b7 b8 C' hC' h80 h81 => br_f (by decide) ⟨pk_in 0 2 (by omega), ?_⟩)
  rw [sb_cl0, h80]
  exact H b4 b5 b6 b7 b8 C' hC'
theorem rm_encode {post : Int32 → St2 → Prop} {f0_k f0_t : Int32} {a1 a2 a3 a4 a5 a6 a7 a8 : Nat → Int32} {x y : Int32} (hT : rm_T a1 a2) (hx : x = 0) (hy : y = 0)
    (H : ∀ a3', (∀ q, q < 5 → a3' q = 0) → post 0 (f0_k, f0_t, a1, a2, a3', a4, a5, a6, a7, a8)) :
    wpX_encode post (f0_k, f0_t, a1, a2, a3, a4, a5, a6, a7, a8) x y := by
  subst hx hy
  unfold wpX_encode
  refine rm_bad (br_t rfl ?_)
  refine pk_loop (fun n i s => wX_encode_13 post 0 0 f0_k f0_t n (nI i) a1 a2 s a4 a5 a6 a7 a8) (fun i s => ∀ q, q < i → s q = 0) 5 0 a3 (by omega) (fun q q1 => absurd q1 (by omega)) ?_ ?_
  · intro n s hs
    exact pk_le 5 5 (fun _ => H s hs) (fun z => absurd z (by omega))
  · intro n i s hi hs hw
    refine pk_le 5 i (fun z => absurd z (by omega)) (fun _ => rm_value i hT hi ⟨pk_in i 5 hi, ?_⟩)
    rw [nI_clamp (show i < 2 ^ 31 by omega)]
    refine nm_e (nm_r (nI_1 i) (hw _ (fun q q1 => ?_)))
    by_cases e : q = i
    · rw [e, pk_us]
    · rw [pk_un e]
      exact hs q (by omega)
theorem rm_correct {post : Int32 → St2 → Prop} {kk tt : Nat} {a1 a2 a3 a4 a5 a6 a7 a8 : Nat → Int32} {C : Nat → Nat → Nat} (d v : Nat) (hT : rm_T a1 a2) (hk : kk + tt = 3) (ht : 1 ≤ tt) (hk1 : 1 ≤ kk) (hP : rm_P C a5) (hW : rm_W d v a3)
    (H : ∀ a3' a4' a5' a6' a7' a8', (∀ q, q < 5 → a3' q = 0) → post (nI d) (nI kk, nI tt, a1, a2, a3', a4', a5', a6', a7', a8')) :
    wpX_correct post (nI kk, nI tt, a1, a2, a3, a4, a5, a6, a7, a8) := by
  unfold wpX_correct
  have hd := rm_W_d hW
  refine rm_errors d v hT hk ht hk1 hP hW (fun b4 b5 b6 b7 b8 C' hC' h80 h81 => br_f (nI_pos (by omega)) (rm_encode hT h80 h81 (fun b3 h3 => ?_)))
  exact H b3 b4 b5 b6 b7 b8 h3
theorem rm_disturb0 {post : Int32 → St2 → Prop} {u : St2} {x y : Int32} (h : ¬ (¬ x < 0 ∧ x ≤ 31 ∧ ¬ y < 0 ∧ y ≤ 31)) (H : post (-1) u) : wpX_disturb post u x y := by
  obtain ⟨f0_k, f0_t, a1, a2, a3, a4, a5, a6, a7, a8⟩ := u
  unfold wpX_disturb
  by_cases hx : ¬ x < 0 ∧ x ≤ 31
  · refine rm_out0 hx.1 hx.2 (br_t rfl (rm_out1 ?_ (br_f (by decide) H)))
    by_cases hy : y < 0
    · exact Or.inl hy
    · exact Or.inr (Int32.not_le.mp (fun z => h ⟨hx.1, hx.2, hy, z⟩))
  · refine rm_out1 ?_ (br_f (by decide) H)
    by_cases hy : x < 0
    · exact Or.inl hy
    · exact Or.inr (Int32.not_le.mp (fun z => hx ⟨hy, z⟩))
theorem rm_disturb1 {post : Int32 → St2 → Prop} {f0_k f0_t : Int32} {a1 a2 a3 a4 a5 a6 a7 a8 : Nat → Int32} {x y : Int32} (d v : Nat) (hT : rm_T a1 a2) (hx0 : ¬ x < 0) (hx1 : x ≤ 31) (hy0 : ¬ y < 0) (hy1 : y ≤ 31) (h3 : ∀ q, q < 5 → a3 q = 0)
    (hW : ∀ a3', (∀ q, q < 5 → (rm_B y q → a3' q = x) ∧ (¬ rm_B y q → a3' q = 0)) → rm_W d v a3')
    (H : ∀ a3' a4', (∀ q, q < 5 → (rm_B y q → a3' q = x) ∧ (¬ rm_B y q → a3' q = 0)) → post (nI d) (f0_k, f0_t, a1, a2, a3', a4', a5, a6, a7, a8)) :
    wpX_disturb post (f0_k, f0_t, a1, a2, a3, a4, a5, a6, a7, a8) x y := by
  unfold wpX_disturb
  refine rm_out0 hx0 hx1 (br_t rfl (rm_out0 hy0 hy1 (br_t rfl ?_)))
  refine pk_loop (fun n i s => wX_disturb_20 post x y f0_k f0_t n (nI i) a1 a2 s a4 a5 a6 a7 a8) (fun i s => (∀ q, q < i → (rm_B y q → s q = x) ∧ (¬ rm_B y q → s q = 0)) ∧ ∀ q, i ≤ q → q < 5 → s q = 0) 5 0 a3 (by omega) ⟨fun q q1 => absurd q1 (by omega), fun q _ q2 => h3 q q2⟩ ?_ ?_
  · intro n s hs
    exact pk_le 5 5 (fun _ => rm_rank d v hT (hW s hs.1) (fun b4 => H s b4 hs.1)) (fun z => absurd z (by omega))
  · intro n i s hi hs hw
    refine pk_le 5 i (fun z => absurd z (by omega)) (fun _ => ?_)
    rw [nI_clamp (show i < 2 ^ 31 by omega), hs.2 i (by omega) hi, Int32.zero_xor]
    refine br_c (fun z => ⟨pk_in i 5 hi, pk_in i 5 hi, nm_e (nm_r (nI_1 i) (hw _ ⟨fun q q1 => ?_, fun q q1 q2 => ?_⟩))⟩) (fun z => nm_r (nI_1 i) (hw _ ⟨fun q q1 => ?_, fun q q1 q2 => hs.2 q (by omega) q2⟩))
    · by_cases e : q = i
      · rw [e, pk_us]
        exact ⟨fun _ => rfl, fun z2 => absurd z z2⟩
      · rw [pk_un e]
        exact hs.1 q (by omega)
    · rw [pk_un (by omega)]
      exact hs.2 q (by omega) q2
    · by_cases e : q = i
      · rw [e]
        exact ⟨fun z2 => absurd z2 z, fun _ => hs.2 i (by omega) hi⟩
      · exact hs.1 q (by omega)
theorem rm_symbol0 {post : Int32 → Prop} {u : St2} {x : Int32} (h : x < 0 ∨ 4 < x) (H : post (-1)) : wpX_symbol post u x := by
  obtain ⟨f0_k, f0_t, a1, a2, a3, a4, a5, a6, a7, a8⟩ := u
  exact br_c (fun _ => H) (fun z => br_f (Int32.not_le.mpr (h.resolve_left z)) H)
theorem rm_symbol1 {post : Int32 → Prop} {f0_k f0_t : Int32} {a1 a2 a3 a4 a5 a6 a7 a8 : Nat → Int32} (i : Nat) (hi : i < 5) (H : post (a3 i)) : wpX_symbol post (f0_k, f0_t, a1, a2, a3, a4, a5, a6, a7, a8) (nI i) := by
  unfold wpX_symbol
  rw [nI_clamp (show i < 2 ^ 31 by omega)]
  exact br_f (nI_pos (by omega)) (pk_le i 4 (fun _ => ⟨pk_in i 5 hi, H⟩) (fun z => absurd z (by omega)))
end
section
/-! the tables are made -/
theorem rm_pw_lt : ∀ i, i < 62 → rm_pw i < 32 := by decide +kernel
theorem rm_pw_31 : ∀ i, i < 31 → rm_pw (i + 31) = rm_pw i := by decide +kernel
theorem rm_pw_inj : ∀ i, i < 31 → ∀ j, j < 31 → rm_pw i = rm_pw j → i = j := by decide +kernel
theorem rm_pw_lg : ∀ x, x < 32 → x ≠ 0 → rm_pw (rm_lg x) = x := by decide +kernel
theorem rm_step : ∀ i, i < 31 → (nI (rm_pw i) <<< ((1 : Int32) &&& 31) ≤ 31 → nI (rm_pw i) <<< ((1 : Int32) &&& 31) = nI (rm_pw (i + 1))) ∧ (¬ nI (rm_pw i) <<< ((1 : Int32) &&& 31) ≤ 31 → (nI (rm_pw i) <<< ((1 : Int32) &&& 31)) ^^^ 37 = nI (rm_pw (i + 1))) := by decide +kernel
theorem rm_pw0 : nI (rm_pw 0) = 1 := by decide +kernel
def rm_M (i : Nat) (p l : Nat → Int32) : Prop := ∀ j, j < i → p j = nI (rm_pw j) ∧ p (j + 31) = nI (rm_pw (j + 31)) ∧ l (rm_pw j) = nI j
theorem rm_M_T {p l : Nat → Int32} (h : rm_M 31 p l) : rm_T p l := by
  refine ⟨fun j hj => ?_, fun j hj h0 => ?_⟩
  · by_cases e : j < 31
    · exact (h j e).1
    · have z := (h (j - 31) (by omega)).2.1
      rw [show j - 31 + 31 = j by omega] at z
      exact z
  · have z := (h (rm_lg j) (by have := rm_lg_le j hj; omega)).2.2
    rw [rm_pw_lg j hj h0] at z
    exact z
theorem rm_M_s {i : Nat} {p l : Nat → Int32} (hi : i < 31) (h : rm_M i p l) : rm_M (i + 1) (upd (upd p i (nI (rm_pw i))) (i + 31) (nI (rm_pw i))) (upd l (rm_pw i) (nI i)) := by
  intro j hj
  by_cases e : j = i
  · subst e
    refine ⟨?_, ?_, pk_us⟩
    · rw [pk_un (by omega), pk_us]
    · rw [pk_us, rm_pw_31 j hi]
  · have z := h j (by omega)
    refine ⟨?_, ?_, ?_⟩
    · rw [pk_un (by omega), pk_un e]
      exact z.1
    · rw [pk_un (by omega), pk_un (by omega)]
      exact z.2.1
    · rw [pk_un (fun q => e (rm_pw_inj j (by omega) i hi q))]
      exact z.2.2
theorem rm_i98 {post : St2 → Prop} {mc ms kc ks : Nat} {f0_k f0_t : Int32} {p l a3 a4 a5 a6 a7 a8 : Nat → Int32}
    (H : ∀ a1 a2, rm_T a1 a2 → post (f0_k, f0_t, a1, a2, a3, a4, a5, a6, a7, a8)) :
    ∃ fu, wX_init_98 post mc ms kc ks f0_k f0_t fu 1 0 p l a3 a4 a5 a6 a7 a8 := by
  refine Exists.elim (pk_loop (fun n i s => wX_init_98 post mc ms kc ks f0_k f0_t n (nI (rm_pw i)) (nI i) s.1 s.2 a3 a4 a5 a6 a7 a8) (fun i s => rm_M i s.1 s.2) 31 0 ((p, l) : (Nat → Int32) × (Nat → Int32)) (by omega) (fun j hj => absurd hj (by omega)) ?_ ?_) (fun n hn => ⟨n, ?_⟩)
  · intro n s hs
    exact pk_le 31 31 (fun _ => H s.1 s.2 (rm_M_T hs)) (fun z => absurd z (by omega))
  · intro n i s hi hs hw
    have e31 : nI i + 31 = nI (i + 31) := nI_add i 31
    have hp := rm_pw_lt i (by omega)
    have hm := hw (upd (upd s.1 i (nI (rm_pw i))) (i + 31) (nI (rm_pw i)), upd s.2 (rm_pw i) (nI i)) (rm_M_s hi hs)
    refine pk_le 31 i (fun z => absurd z (by omega)) (fun _ => ?_)
    rw [e31, nI_clamp (show i < 2 ^ 31 by omega), nI_clamp (show i + 31 < 2 ^ 31 by omega), nI_clamp (show rm_pw i < 2 ^ 31 by omega)]
    refine ⟨pk_in i 64 (by omega), nm_e ⟨vp_in_nI (by omega) (by omega), nm_e ⟨vp_in_nI hp (by omega), nm_e (nm_e (br_c (fun z => ?_) (fun z => nm_r ((rm_step i hi).2 z) (nm_r (nI_1 i) hm))))⟩⟩⟩
    rw [(rm_step i hi).1 z]
    exact nm_r (nI_1 i) hm
  · have hn' : wX_init_98 post mc ms kc ks f0_k f0_t n (nI (rm_pw 0)) (nI 0) p l a3 a4 a5 a6 a7 a8 := hn
    rw [rm_pw0, nI_0] at hn'
    exact hn'
theorem rm_i81 {post : St2 → Prop} {mc ms kc ks : Nat} {x2 f0_k f0_t : Int32} {p l a3 a4 a5 a6 a7 a8 : Nat → Int32} (kk tt : Nat) (hk : kk + tt = 3) (ht : 1 ≤ tt) (hk1 : 1 ≤ kk) (hx : x2 = nI kk)
    (H : ∀ a1 a2, rm_T a1 a2 → post (nI kk, nI tt, a1, a2, a3, a4, a5, a6, a7, a8)) :
    wX_init_81 post mc ms x2 kc ks f0_k f0_t p l a3 a4 a5 a6 a7 a8 := by
  subst hx
  unfold wX_init_81
  have e : (3 : Int32) - nI kk = nI tt := by
    show nI 3 - nI kk = nI tt
    rw [pk_sub (by omega)]
    congr 1
    omega
  exact nm_r e (rm_i98 H)
theorem rm_init {post : St2 → Prop} {mc ms : Nat} {u : St1} {p0 : Int32} (hmc : 8 ≤ mc) (hms : 150 ≤ ms)
    (H : ∀ kk tt a1 a2, kk + tt = 3 → 1 ≤ tt → 1 ≤ kk → rm_T a1 a2 → post (nI kk, nI tt, a1, a2, (fun _ => 0), (fun _ => 0), (fun _ => 0), (fun _ => 0), (fun _ => 0), (fun _ => 0))) :
    wpX_init post mc ms u p0 := by
  obtain ⟨f0_k, f0_t⟩ := u
  unfold wpX_init
  refine ⟨by omega, by omega, by omega, by omega, by omega, by omega, by omega, by omega, by omega, by omega, by omega, by omega, by omega, by omega, by omega, by omega, ?_⟩
  refine br_c (fun z => ?_) (fun z => ?_)
  · unfold wX_init_74
    refine br_c (fun z2 => ?_) (fun z2 => rm_i81 2 1 (by omega) (by omega) (by omega) rfl (fun a1 a2 hT => H 2 1 a1 a2 (by omega) (by omega) (by omega) hT))
    have hn : ¬ p0 < 0 := Int32.not_lt.mpr (Int32.le_trans (by decide) z)
    obtain ⟨j, hj, e⟩ := nI_of2 (M := 2) (n := 2) (by decide) hn z2
    have hj1 : 1 ≤ j := by
      rcases Nat.eq_zero_or_pos j with q | q
      · rw [e, q] at z
        exact absurd z (by decide)
      · exact q
    exact rm_i81 j (3 - j) (by omega) (by omega) (by omega) e (fun a1 a2 hT => H j (3 - j) a1 a2 (by omega) (by omega) (by omega) hT)
  · unfold wX_init_74
    exact br_t (by decide) (rm_i81 1 2 (by omega) (by omega) (by omega) rfl (fun a1 a2 hT => H 1 2 a1 a2 (by omega) (by omega) (by omega) hT))
end
section
/-! disturb and symbol as the law asks them -/
def rm_In (x y : Int32) : Prop := ¬ x < 0 ∧ ¬ 31 < x ∧ ¬ y < 0 ∧ ¬ 31 < y
/-- what disturb leaves: its answer R, the word a -/
def rm_Q (x y R : Int32) (d : Nat) (a : Nat → Int32) : Prop := (rm_In x y → R = nI d ∧ (x = 0 → d = 0) ∧ (y = 0 → d = 0) ∧ (¬ x = 0 → ¬ y = 0 → d = 1) ∧ ∀ q, q < 5 → (rm_B y q → a q = x) ∧ (¬ rm_B y q → a q = 0)) ∧ (¬ rm_In x y → R = -1 ∧ d = 0 ∧ ∀ q, q < 5 → a q = 0)
theorem rm_W0 {a : Nat → Int32} (h : ∀ q, q < 5 → a q = 0) : rm_W 0 1 a := ⟨by omega, by omega, Or.inl ⟨rfl, h⟩⟩
theorem rm_disturb {post : Int32 → St2 → Prop} {f0_k f0_t : Int32} {a1 a2 a3 a4 a5 a6 a7 a8 : Nat → Int32} {x y : Int32} (hT : rm_T a1 a2) (h3 : ∀ q, q < 5 → a3 q = 0)
    (H : ∀ R d v a3' a4', rm_W d v a3' → rm_Q x y R d a3' → post R (f0_k, f0_t, a1, a2, a3', a4', a5, a6, a7, a8)) :
    wpX_disturb post (f0_k, f0_t, a1, a2, a3, a4, a5, a6, a7, a8) x y := by
  by_cases hin : rm_In x y
  · obtain ⟨hx0, hx1, hy0, hy1⟩ := hin
    have hx1' := Int32.not_lt.mp hx1
    have hy1' := Int32.not_lt.mp hy1
    obtain ⟨a, ha, ea⟩ := nI_of2 (M := 31) (n := 31) (by decide) hx0 hx1'
    obtain ⟨b, hb, eb⟩ := nI_of2 (M := 31) (n := 31) (by decide) hy0 hy1'
    by_cases hz : x = 0 ∨ y = 0
    · refine rm_disturb1 0 1 hT hx0 hx1' hy0 hy1' h3 (fun c3 hc => rm_W0 (fun q q1 => ?_)) (fun c3 c4 hc => H (nI 0) 0 1 c3 c4 (rm_W0 (fun q q1 => ?_)) ⟨fun _ => ⟨rfl, fun _ => rfl, fun _ => rfl, fun zx zy => absurd hz (fun w => w.elim zx zy), hc⟩, fun w => absurd ⟨hx0, hx1, hy0, hy1⟩ w⟩)
      all_goals
        by_cases hB : rm_B y q
        · rcases hz with e | e
          · rw [(hc q q1).1 hB, e]
          · rw [e] at hB
            exact absurd hB (rm_B0 q q1)
        · exact (hc q q1).2 hB
    · have hx : ¬ x = 0 := fun w => hz (Or.inl w)
      have hy : ¬ y = 0 := fun w => hz (Or.inr w)
      have ha0 : a ≠ 0 := fun w => hx (by rw [ea, w]; rfl)
      have hb0 : b ≠ 0 := fun w => hy (by rw [eb, w]; rfl)
      have hW : ∀ c3 : Nat → Int32, (∀ q, q < 5 → (rm_B y q → c3 q = x) ∧ (¬ rm_B y q → c3 q = 0)) → rm_W 1 a c3 := by
        intro c3 hc
        refine ⟨by omega, ha0, Or.inr ⟨rfl, fun q q1 => ?_, ?_⟩⟩
        · by_cases hB : rm_B y q
          · exact Or.inr (((hc q q1).1 hB).trans ea)
          · exact Or.inl ((hc q q1).2 hB)
        · refine Classical.byContradiction (fun hno => ?_)
          refine rm_Bex b (by omega) hb0 (fun q q1 hB => hno ⟨q, q1, ?_⟩)
          rw [← eb] at hB
          exact ((hc q q1).1 hB).trans ea
      exact rm_disturb1 1 a hT hx0 hx1' hy0 hy1' h3 hW (fun c3 c4 hc => H (nI 1) 1 a c3 c4 (hW c3 hc) ⟨fun _ => ⟨rfl, fun w => absurd w hx, fun w => absurd w hy, fun _ _ => rfl, hc⟩, fun w => absurd ⟨hx0, hx1, hy0, hy1⟩ w⟩)
  · refine rm_disturb0 (fun w => hin ⟨w.1, Int32.not_lt.mpr w.2.1, w.2.2.1, Int32.not_lt.mpr w.2.2.2⟩) (H (-1) 0 1 a3 a4 (rm_W0 h3) ⟨fun w => absurd w hin, fun _ => ⟨rfl, rfl, h3⟩⟩)
theorem rm_symbol {post : Int32 → Prop} {f0_k f0_t : Int32} {a1 a2 a3 a4 a5 a6 a7 a8 : Nat → Int32} {x : Int32}
    (H : ∀ R, ((x < 0 ∨ 4 < x) → R = -1) → (∀ i, i < 5 → x = nI i → R = a3 i) → post R) : wpX_symbol post (f0_k, f0_t, a1, a2, a3, a4, a5, a6, a7, a8) x := by
  by_cases h : x < 0 ∨ 4 < x
  · refine rm_symbol0 h (H (-1) (fun _ => rfl) (fun i hi e => ?_))
    rw [e] at h
    rcases h with z | z
    · exact absurd z (nI_pos (by omega))
    · exact absurd z (Int32.not_lt.mpr (nI_le (b := 4) (by omega) (by omega)))
  · have h0 : ¬ x < 0 := fun w => h (Or.inl w)
    have h4 : x ≤ 4 := Int32.not_lt.mp (fun w => h (Or.inr w))
    obtain ⟨i, hi, e⟩ := nI_of2 (M := 4) (n := 4) (by decide) h0 h4
    subst e
    refine rm_symbol1 i (by omega) (H (a3 i) (fun w => absurd w h) (fun j hj e => ?_))
    rw [rm_nI_inj (by omega) (by omega) e]
/-! the law's own conditions -/
theorem rm_e185 {post : Int32 → St0 → Prop} {mc ms kc ks : Nat} {x6 x7 x8 x9 x10 x11 x12 x14 x15 z : Int32} (h7 : x7 = x15) (h8 : x8 = 0) (h9 : x9 = x15) (h10 : x10 = x15) (h12 : x12 = 0) (h6 : x6 = z) (ha : x14 = 0 → x11 = -1) (hb : ¬ x14 = 0 → x11 = 0) (H : post 1 ()) :
    wL_lawOf_185 post mc ms x7 x8 x9 x10 x11 x12 x14 x15 z x6 kc ks := by
  unfold wL_lawOf_185 wL_lawOf_226
  exact br_t h6 (br_t h7 (br_t h8 (br_t h9 (br_t h10 (br_c (fun w => br_t (ha w) (br_t h12 H)) (fun w => br_t (hb w) (br_t h12 H)))))))
theorem rm_e134 {post : Int32 → St0 → Prop} {mc ms kc ks : Nat} {x1 x2 x3 x5 x6 x7 x8 x9 x10 x11 x12 x13 x14 x15 : Int32} (h7 : x7 = x15) (h8 : x8 = 0) (h9 : x9 = x15) (h10 : x10 = x15) (h12 : x12 = 0)
    (h5a : x13 = 0 → x5 = -1) (h5b : ¬ x13 = 0 → x5 = x15)
    (ha : x14 = 0 → x6 = -1 ∧ x11 = -1)
    (hb : ¬ x14 = 0 → x11 = 0 ∧ (x13 = 0 → x6 = 0) ∧ (¬ x13 = 0 → ((((x2 >>> ((x3 &&& 7) &&& 31)) &&& 1) = 1 → x6 = x1) ∧ (¬ ((x2 >>> ((x3 &&& 7) &&& 31)) &&& 1) = 1 → x6 = 0)))) (H : post 1 ()) :
    wL_lawOf_134 post mc ms x1 x2 x3 x5 x6 x7 x8 x9 x10 x11 x12 x13 x14 x15 kc ks := by
  have ha' : x14 = 0 → x11 = -1 := fun w => (ha w).2
  have hb' : ¬ x14 = 0 → x11 = 0 := fun w => (hb w).1
  unfold wL_lawOf_134 wL_lawOf_149 wL_lawOf_184
  refine br_c (fun w => br_t (h5a w) ?_) (fun w => br_t (h5b w) ?_)
  · exact br_c (fun w2 => rm_e185 h7 h8 h9 h10 h12 (ha w2).1 ha' hb' H) (fun w2 => br_t w (rm_e185 h7 h8 h9 h10 h12 ((hb w2).2.1 w) ha' hb' H))
  · exact br_c (fun w2 => rm_e185 h7 h8 h9 h10 h12 (ha w2).1 ha' hb' H) (fun w2 => br_f w (br_c (fun w3 => rm_e185 h7 h8 h9 h10 h12 (((hb w2).2.2 w).1 w3) ha' hb' H) (fun w3 => rm_e185 h7 h8 h9 h10 h12 (((hb w2).2.2 w).2 w3) ha' hb' H)))
theorem rm_e114 {post : Int32 → St0 → Prop} {mc ms kc ks : Nat} {x1 x2 x3 x5 x6 x8 x11 x12 x13 x14 D : Int32} (h8 : x8 = 0) (h12 : x12 = 0)
    (h5a : x13 = 0 → x5 = -1) (h5b : ¬ x13 = 0 → x5 = D)
    (hD0 : x13 = 0 → D = 0) (hD1 : ¬ x13 = 0 → x1 = 0 → D = 0) (hD2 : ¬ x13 = 0 → x2 = 0 → D = 0) (hD3 : ¬ x13 = 0 → ¬ x1 = 0 → ¬ x2 = 0 → D = 1)
    (ha : x14 = 0 → x6 = -1 ∧ x11 = -1)
    (hb : ¬ x14 = 0 → x11 = 0 ∧ (x13 = 0 → x6 = 0) ∧ (¬ x13 = 0 → ((((x2 >>> ((x3 &&& 7) &&& 31)) &&& 1) = 1 → x6 = x1) ∧ (¬ ((x2 >>> ((x3 &&& 7) &&& 31)) &&& 1) = 1 → x6 = 0)))) (H : post 1 ()) :
    wL_lawOf_114 post mc ms x1 x2 x3 x5 x6 D x8 D D x11 x12 x13 x14 kc ks := by
  unfold wL_lawOf_114 wL_lawOf_133
  exact br_c (fun w => rm_e134 (hD0 w) h8 (hD0 w) (hD0 w) h12 h5a (fun q => absurd w q) ha hb H)
    (fun w => br_c (fun w1 => rm_e134 (hD1 w w1) h8 (hD1 w w1) (hD1 w w1) h12 h5a (fun q => (h5b q).trans (hD1 w w1)) ha hb H)
      (fun w1 => br_c (fun w2 => rm_e134 (hD2 w w2) h8 (hD2 w w2) (hD2 w w2) h12 h5a (fun q => (h5b q).trans (hD2 w w2)) ha hb H)
        (fun w2 => rm_e134 (hD3 w w1 w2) h8 (hD3 w w1 w2) (hD3 w w1 w2) h12 h5a (fun q => (h5b q).trans (hD3 w w1 w2)) ha hb H)))
theorem rm_e98 {post : Int32 → St0 → Prop} {mc ms kc ks : Nat} {x1 x2 x3 x5 x6 x8 x11 x12 x13 D : Int32} (h8 : x8 = 0) (h12 : x12 = 0)
    (h5a : x13 = 0 → x5 = -1) (h5b : ¬ x13 = 0 → x5 = D)
    (hD0 : x13 = 0 → D = 0) (hD1 : ¬ x13 = 0 → x1 = 0 → D = 0) (hD2 : ¬ x13 = 0 → x2 = 0 → D = 0) (hD3 : ¬ x13 = 0 → ¬ x1 = 0 → ¬ x2 = 0 → D = 1)
    (ha : (x3 < 0 ∨ 4 < x3) → x6 = -1 ∧ x11 = -1)
    (hb : ¬ (x3 < 0 ∨ 4 < x3) → x11 = 0 ∧ (x13 = 0 → x6 = 0) ∧ (¬ x13 = 0 → ((((x2 >>> ((x3 &&& 7) &&& 31)) &&& 1) = 1 → x6 = x1) ∧ (¬ ((x2 >>> ((x3 &&& 7) &&& 31)) &&& 1) = 1 → x6 = 0)))) (H : post 1 ()) :
    wL_lawOf_98 post mc ms x1 x2 x3 x5 x6 D x8 D D x11 x12 x13 kc ks := by
  unfold wL_lawOf_98 wL_lawOf_113
  exact br_c (fun w => rm_e114 h8 h12 h5a h5b hD0 hD1 hD2 hD3 (fun _ => ha (Or.inl w)) (fun q => absurd rfl q) H)
    (fun w => br_c (fun w2 => rm_e114 h8 h12 h5a h5b hD0 hD1 hD2 hD3 (fun _ => ha (Or.inr w2)) (fun q => absurd rfl q) H)
      (fun w2 => rm_e114 h8 h12 h5a h5b hD0 hD1 hD2 hD3 (fun q => absurd q (by decide)) (fun _ => hb (fun r => r.elim w w2)) H))
theorem rm_lawOf {post : Int32 → St0 → Prop} {mc ms : Nat} {p0 p1 p2 p3 : Int32} (hmc : 9 ≤ mc) (hms : 160 ≤ ms) (H : post 1 ()) : wpL_lawOf post mc ms () p0 p1 p2 p3 := by
  unfold wpL_lawOf
  refine ⟨by omega, by omega, 8, 150, by omega, by omega, rm_init (by omega) (by omega) (fun kk tt a1 a2 hk ht hk1 hT => ?_)⟩
  refine rm_disturb hT (fun _ _ => rfl) (fun R d v b3 b4 hW hQ => ?_)
  have hP : rm_P (fun _ _ => 0) (fun _ => 0) := fun r _ c _ => ⟨show 0 < 32 by omega, rfl⟩
  refine rm_symbol (fun S hS0 hS1 => ?_)
  refine rm_errors d v hT hk ht hk1 hP hW (fun c4 c5 c6 c7 c8 C1 hC1 _ _ => ?_)
  refine rm_message d v hT hk ht hk1 hC1 hW (fun d4 d5 d6 d7 d8 C2 hC2 => ?_)
  refine rm_dist d v hT hW rfl rfl (fun e4 => ?_)
  refine rm_correct d v hT hk ht hk1 hC2 hW (fun f3 f4 f5 f6 f7 f8 hf => ?_)
  refine rm_symbol (fun A hA0 hA1 => ?_)
  refine rm_rank 0 1 hT (rm_W0 hf) (fun g4 => ?_)
  have out : ¬ rm_In p1 p2 → wL_lawOf_98 post mc ms p1 p2 p3 R S (nI d) 0 (nI d) (nI d) A (nI 0) 0 (1 + 8) (10 + 150) := by
    intro hin
    obtain ⟨hR, hd, h0⟩ := hQ.2 hin
    refine rm_e98 rfl nI_0 (fun _ => hR) (fun q => absurd rfl q) (fun _ => by rw [hd, nI_0]) (fun q => absurd rfl q) (fun q => absurd rfl q) (fun q => absurd rfl q) (fun w => ⟨hS0 w, hA0 w⟩) (fun w => ?_) H
    obtain ⟨i, hi, e⟩ := nI_of2 (M := 4) (n := 4) (by decide) (fun q => w (Or.inl q)) (Int32.not_lt.mp (fun q => w (Or.inr q)))
    exact ⟨(hA1 i (by omega) e).trans (hf i (by omega)), fun _ => (hS1 i (by omega) e).trans (h0 i (by omega)), fun q => absurd rfl q⟩
  refine br_c (fun z => out (fun q => q.1 z)) (fun z1 => br_c (fun z => out (fun q => q.2.1 z)) (fun z2 => br_c (fun z => out (fun q => q.2.2.1 z)) (fun z3 => br_c (fun z => out (fun q => q.2.2.2 z)) (fun z4 => ?_))))
  obtain ⟨hR, hd1, hd2, hd3, hw⟩ := hQ.1 ⟨z1, z2, z3, z4⟩
  have n1 : ¬ (1 : Int32) = 0 := by decide
  refine rm_e98 rfl nI_0 (fun q => absurd q n1) (fun _ => hR) (fun q => absurd q n1) (fun _ q => by rw [hd1 q, nI_0]) (fun _ q => by rw [hd2 q, nI_0]) (fun _ q1 q2 => by rw [hd3 q1 q2]; rfl) (fun w => ⟨hS0 w, hA0 w⟩) (fun w => ?_) H
  obtain ⟨i, hi, e⟩ := nI_of2 (M := 4) (n := 4) (by decide) (fun q => w (Or.inl q)) (Int32.not_lt.mp (fun q => w (Or.inr q)))
  refine ⟨(hA1 i (by omega) e).trans (hf i (by omega)), fun q => absurd q n1, fun _ => ?_⟩
  have g := hw i (by omega)
  rw [e, rm_and7 i (by omega), hS1 i (by omega) e]
  exact g
theorem rm_cell {post : Int32 → Prop} {L : Nat} {xs : Nat → Int32} {u : St0} (j : Nat) (hL : L ≤ 4) (hj : j < 4) (H : ∀ r, post r) : wpL_cellAt post L xs u (nI j) := by
  unfold wpL_cellAt
  exact pk_le L j (fun _ => H _) (fun z => ⟨pk_in j L z, H _⟩)
/-! ===== WHAT IS OWED for RankMetricCodeLaw: one statement: the law answers true on every script of L ints xs ===== -/
theorem i_vc (xs : Nat → Int32) (L : Nat) (hL : L ≤ 4) : wpL_law (fun r => r = 1) L xs := by
  unfold wpL_law
  refine rm_cell 0 hL (by omega) (fun r1 => rm_cell 1 hL (by omega) (fun r2 => rm_cell 2 hL (by omega) (fun r3 => rm_cell 3 hL (by omega) (fun r4 => ?_))))
  exact ⟨100, 1584, by omega, by omega, rm_lawOf (by omega) (by omega) rfl⟩
end
