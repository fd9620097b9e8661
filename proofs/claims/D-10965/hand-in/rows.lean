section
/-! ===== ParametricCut: plain rows ===== -/
theorem pc_ix9 (i j : Nat) : nI i * 9 + nI j = nI (i * 9 + j) := by
  rw [show (9 : Int32) = nI 9 from rfl, pk_mul, nI_add]
theorem pc_ix7 (i j : Nat) : nI i * 7 + nI j = nI (i * 7 + j) := by
  rw [show (7 : Int32) = nI 7 from rfl, pk_mul, nI_add]
theorem pc_ix8 (i : Nat) : nI i * 9 + 8 = nI (i * 9 + 8) := pc_ix9 i 8
theorem pc_i63 (j : Nat) : 63 + nI j = nI (63 + j) := by
  rw [show (63 : Int32) = nI 63 from rfl, nI_add]
theorem pc_cl {n : Nat} (h : n < 1000) : (nI n).toNatClampNeg = n := nI_clamp (by omega)
theorem pc_u (f : Nat → Int32) (k : Nat) (x : Int32) (j : Nat) : upd f k x j = if j = k then x else f j := rfl
theorem pc_fill {f s : Nat → Int32} {i k : Nat} {x : Int32} (hk : k = i) (h : ∀ j, j < i → s j = f j) (hx : x = f i) : ∀ j, j < i + 1 → upd s k x j = f j := by
  intro j hj
  rw [hk]
  by_cases e : j = i
  · rw [e, pk_us, hx]
  · rw [pk_un e]
    exact h j (by omega)
theorem pc_z0 {n : Nat} (h : n < 2 ^ 31) (h' : nI n ≤ 0) : n = 0 := by
  by_cases e : n = 0
  · exact e
  · exact absurd h' (nI_nle (by omega) h)
theorem pc_m1 : ¬ (0 : Int32) ≤ -1 := by decide
theorem pc_inj {a b : Nat} (ha : a < 2 ^ 31) (hb : b < 2 ^ 31) (h : nI a = nI b) : a = b := (nI_eq ha hb).mp h
theorem pc_nlt {x : Int32} (h : ¬ 0 ≤ x) : x < 0 := Int32.not_le.mp h
theorem pc_nle {x : Int32} (h : 0 ≤ x) : ¬ x < 0 := Int32.not_lt.mpr h
theorem pc_s31 : ∀ n, n < 32 → ((nI n &&& 31).toBitVec.smod 32).toNat = n := by decide +kernel
theorem pc_sh1 : ∀ t, t < 9 → (1 : Int32) <<< (nI t &&& 31) = nI (2 ^ t) := by decide +kernel
theorem pc_in0 : ∀ i, i < 9 → ¬ (((0 : Int32) >>> (nI i &&& 31)) &&& 1) = 1 := by decide +kernel
theorem pc_or (a b : Nat) : nI a ||| nI b = nI (a ||| b) := by
  apply Int32.toBitVec_inj.1
  show BitVec.ofNat 32 a ||| BitVec.ofNat 32 b = BitVec.ofNat 32 (a ||| b)
  apply BitVec.eq_of_getLsbD_eq
  intro i hi
  simp [hi]
theorem pc_bit {X K : Nat} (hX : X < 2 ^ 31) (hK : K < 32) : ((nI X >>> (nI K &&& 31)) &&& 1) = nI (X / 2 ^ K % 2) := by
  rw [pk_shrN hX (nI K &&& 31) K (pc_s31 K hK)]
  exact pk_andN (n := X / 2 ^ K) (Nat.lt_of_le_of_lt (Nat.div_le_self _ _) (by omega)) 1 (by decide)
theorem pc_m127 {X : Nat} (hX : X < 2 ^ 31) : nI X &&& 127 = nI (X % 128) :=
  pk_andN (n := X) (by omega) 7 (by decide)
/-- in(0, i) is false -/
theorem pc_inZ {post : Int32 → Prop} {i : Nat} (hi : i < 9) (h : post 0) : wpX_in post () 0 (nI i) := br_f (pc_in0 i hi) h
/-- in(X, K) reads bit K -/
theorem pc_inN {post : Int32 → Prop} {X K : Nat} (hX : X < 2 ^ 31) (hK : K < 32) (h1 : X / 2 ^ K % 2 = 1 → post 1) (h0 : ¬ X / 2 ^ K % 2 = 1 → post 0) : wpX_in post () (nI X) (nI K) := by
  unfold wpX_in
  rw [pc_bit hX hK]
  refine pk_eq (X / 2 ^ K % 2) 1 h1 h0 rfl rfl (by omega) (by omega)
theorem pc_bad0 {post : Int32 → Prop} {p : Nat} (hp : p < 7) (h : post 0) : wpX_bad post () (nI p) :=
  br_f (nI_pos (by omega)) (br_t (nI_lt (b := 7) hp (by decide)) h)
theorem pc_bad1 {post : Int32 → Prop} {x : Int32} (hx : x < 0 ∨ nI 7 ≤ x) (h : post 1) : wpX_bad post () x := by
  by_cases e : x < 0
  · exact br_t e h
  · exact br_f e (br_f (fun z => by
      rcases hx with g | g
      · exact e g
      · exact Int32.not_lt.mpr g z) h)
theorem pc_node1 {post : Int32 → Prop} {p : Nat} (hp : p < 7) (h : post 1) : wpL_node post () (nI p) :=
  br_f (nI_pos (by omega)) (br_f (nI_nlt (a := 6) (b := p) (by omega) (by decide)) h)
theorem pc_67 {x : Int32} (h : nI 7 ≤ x) : 6 < x := by
  have h' := Int32.le_iff_toInt_le.mp h
  exact Int32.lt_iff_toInt_lt.mpr (by
    have e : (nI 7).toInt = 7 := by decide
    have e' : (6 : Int32).toInt = 6 := by decide
    omega)
theorem pc_node0 {post : Int32 → Prop} {x : Int32} (hx : x < 0 ∨ nI 7 ≤ x) (h : post 0) : wpL_node post () x := by
  by_cases e : x < 0
  · exact br_t e h
  · exact br_f e (br_t (by
      rcases hx with g | g
      · exact absurd g e
      · exact pc_67 g) h)
theorem pc_badX0 {post : Int32 → Prop} {X : Nat} (hX : X ≤ 50) (h : post 0) : wpX_badX post () (nI X) :=
  br_f (nI_pos (by omega)) (br_t (nI_le (b := 50) hX (by decide)) h)
theorem pc_badX1 {post : Int32 → Prop} {x : Int32} (hx : x < 0 ∨ ¬ x ≤ 50) (h : post 1) : wpX_badX post () x := by
  by_cases e : x < 0
  · exact br_t e h
  · exact br_f e (br_f (hx.resolve_left e) h)
/-! ===== pictures ===== -/
def pc_cap (p q c i j : Nat) : Nat := if (i = p ∧ j = q) ∨ (i = q ∧ j = p) then c else 0
def pc_pl (p w i : Nat) : Nat := if i = p then w else 0
/-- the capacities -/
def pc_C (p q c : Nat) (a1 : Nat → Int32) : Prop := ∀ i j, i < 7 → j < 7 → a1 (i * 7 + j) = nI (pc_cap p q c i j)
/-- the source's pulls at x -/
def pc_S (p w : Nat) (x : Int32) (a2 a3 : Nat → Int32) : Prop := ∀ i, i < 7 → (a2 i + a3 i * x ≤ 0 ∧ nI (pc_pl p w i) = 0) ∨ (¬ a2 i + a3 i * x ≤ 0 ∧ a2 i + a3 i * x = nI (pc_pl p w i))
def pc_O (a : Nat → Int32) : Prop := ∀ i, i < 7 → a i = 0
def pc_K (p q c w : Nat) (x : Int32) (a1 a2 a3 a4 a5 : Nat → Int32) : Prop := p < 7 ∧ q < 7 ∧ (p ≠ q ∨ c = 0) ∧ c ≤ 20 ∧ w ≤ 140 ∧ pc_C p q c a1 ∧ pc_S p w x a2 a3 ∧ pc_O a4 ∧ pc_O a5
theorem pc_cap_le {p q c i j : Nat} : pc_cap p q c i j ≤ c := by
  unfold pc_cap
  split <;> omega
theorem pc_pl_le {p w i : Nat} : pc_pl p w i ≤ w := by
  unfold pc_pl
  split <;> omega
section
variable {wf fl : Int32} {a1 a2 a3 a4 a5 a6 a7 a8 a9 a10 a11 a12 : Nat → Int32}
theorem pc_pull {post : Int32 → Prop} {p w i : Nat} {x : Int32} (hS : pc_S p w x a2 a3) (hi : i < 7) (h : post (nI (pc_pl p w i))) : wpX_sourcePull post (wf, fl, a1, a2, a3, a4, a5, a6, a7, a8, a9, a10, a11, a12) (nI i) x := by
  refine ⟨pk_in i 7 hi, pk_in i 7 hi, ?_⟩
  rw [pc_cl (n := i) (by omega)]
  refine nm_e ?_
  rcases hS i hi with ⟨h1, h2⟩ | ⟨h1, h2⟩
  · rw [h2] at h
    exact br_t h1 h
  · rw [← h2] at h
    exact br_f h1 h
theorem pc_sink {post : Int32 → Prop} {i : Nat} {x : Int32} (h4 : pc_O a4) (h5 : pc_O a5) (hi : i < 7) (h : post 0) : wpX_sinkPull post (wf, fl, a1, a2, a3, a4, a5, a6, a7, a8, a9, a10, a11, a12) (nI i) x := by
  refine ⟨pk_in i 7 hi, pk_in i 7 hi, ?_⟩
  rw [pc_cl (n := i) (by omega), h4 i hi, h5 i hi]
  refine nm_e ?_
  have e : (0 : Int32) + 0 * x = 0 := by rw [Int32.zero_mul]; rfl
  exact br_t (by rw [e]; decide) h
/-! ===== costOf(0, x) ===== -/
theorem pc_c48 {post : Int32 → Prop} {J : Int32 → Int32 → Prop} {x x3 : Int32} {k : Nat} (hk : k < 7) (H : J x3 (nI (k + 1))) : ∃ n, wX_costOf_48 post J 0 x (nI k) 0 wf fl a1 a2 a3 a4 a5 a6 a7 a8 a9 a10 a11 a12 n x3 0 :=
  pk_loop (σ := Unit) (fun n i _ => wX_costOf_48 post J 0 x (nI k) 0 wf fl a1 a2 a3 a4 a5 a6 a7 a8 a9 a10 a11 a12 n x3 (nI i)) (fun _ _ => True) k 0 () (by omega) trivial
    (fun n _ _ => pk_le k k (fun _ => nm_r (nI_1 k) H) (fun z => absurd z (by omega)))
    (fun n i _ hi _ hw => pk_le k i (fun z => absurd z (by omega)) (fun _ => pc_inZ (by omega) (br_t rfl (nm_r (nI_1 i) (hw () trivial)))))
theorem pc_cost {post : Int32 → Prop} {p w : Nat} {x : Int32} (hp : p < 7) (hS : pc_S p w x a2 a3) (h : post (nI w)) : wpX_costOf post (wf, fl, a1, a2, a3, a4, a5, a6, a7, a8, a9, a10, a11, a12) 0 x := by
  have main : ∃ n, wX_costOf_5 post 0 x wf fl a1 a2 a3 a4 a5 a6 a7 a8 a9 a10 a11 a12 n 0 0 :=
    pk_loop (fun n i s => wX_costOf_5 post 0 x wf fl a1 a2 a3 a4 a5 a6 a7 a8 a9 a10 a11 a12 n s (nI i)) (fun i s => s = nI (if p < i then w else 0)) 7 0 0 (by omega) (by rw [if_neg (by omega)]; rfl)
      (fun n s hs => pk_le 7 7 (fun _ => by rw [hs, if_pos hp]; exact h) (fun z => absurd z (by omega)))
      (fun n i s hi hs hw => pk_le 7 i (fun z => absurd z (by omega)) (fun _ => pc_inZ (by omega) (br_t rfl (pc_pull hS hi (nm_e (pc_c48 hi (hw _ (by
        rw [hs, nI_add]
        congr 1
        unfold pc_pl
        split <;> split <;> split <;> omega))))))))
  exact main
theorem pc_costG {post : Int32 → Prop} {p w X : Nat} (hX : X ≤ 50) (hp : p < 7) (hS : pc_S p w (nI X) a2 a3) (h : post (nI w)) : wpX_cost post (wf, fl, a1, a2, a3, a4, a5, a6, a7, a8, a9, a10, a11, a12) 0 (nI X) := by
  unfold wpX_cost
  exact pc_badX0 hX (br_t rfl (pc_cost hp hS h))
theorem pc_costB {post : Int32 → Prop} {x : Int32} (hx : x < 0 ∨ ¬ x ≤ 50) (h : post (-2)) : wpX_cost post (wf, fl, a1, a2, a3, a4, a5, a6, a7, a8, a9, a10, a11, a12) 0 x := by
  unfold wpX_cost
  exact pc_badX1 hx (br_f (by decide) h)
end
end
section
/-! ===== load ===== -/
/-- what is laid when row r has its first t places -/
def pc_L (p q c w r t i j : Nat) : Nat :=
  if i < 7 ∧ j < 7 ∧ (i < r ∨ (i = r ∧ j < t)) then pc_cap p q c i j
  else if i = 7 ∧ j < 7 ∧ j < r then pc_pl p w j else 0
def pc_LL (p q c w r t : Nat) (a : Nat → Int32) : Prop := ∀ i j, i < 9 → j < 9 → a (i * 9 + j) = nI (pc_L p q c w r t i j)
theorem pc_L0 {p q c w : Nat} {a : Nat → Int32} (h : ∀ k, k < 81 → a k = 0) : pc_LL p q c w 0 0 a := by
  intro i j hi hj
  rw [h _ (by omega)]
  unfold pc_L
  rw [if_neg (by omega), if_neg (by omega)]
  rfl
theorem pc_L1 {p q c w r t : Nat} {a : Nat → Int32} {x : Int32} (hr : r < 7) (ht : t < 7) (h : pc_LL p q c w r t a) (hx : x = nI (pc_cap p q c r t)) : pc_LL p q c w r (t + 1) (upd a (r * 9 + t) x) := by
  intro i j hi hj
  rw [pc_u]
  by_cases e : i = r ∧ j = t
  · obtain ⟨e1, e2⟩ := e
    subst e1 e2
    rw [if_pos rfl, hx]
    unfold pc_L
    rw [if_pos (by omega)]
  · rw [if_neg (by omega), h i j hi hj]
    unfold pc_L
    by_cases g : i < 7 ∧ j < 7 ∧ (i < r ∨ (i = r ∧ j < t))
    · rw [if_pos g, if_pos (by omega)]
    · rw [if_neg g, if_neg (show ¬ (i < 7 ∧ j < 7 ∧ (i < r ∨ (i = r ∧ j < t + 1))) by omega)]
theorem pc_L2 {p q c w r : Nat} {a : Nat → Int32} (hr : r < 7) (h : pc_LL p q c w r 7 a) : pc_LL p q c w (r + 1) 0 (upd (upd a (63 + r) (nI (pc_pl p w r))) (r * 9 + 8) 0) := by
  intro i j hi hj
  rw [pc_u, pc_u]
  by_cases e : i = r ∧ j = 8
  · rw [if_pos (by omega)]
    unfold pc_L
    rw [if_neg (by omega), if_neg (by omega)]
    rfl
  · rw [if_neg (by omega)]
    by_cases e2 : i = 7 ∧ j = r
    · rw [if_pos (by omega)]
      unfold pc_L
      rw [if_neg (by omega), if_pos (by omega), e2.2]
    · rw [if_neg (by omega), h i j hi hj]
      unfold pc_L
      by_cases g : i < 7 ∧ j < 7 ∧ (i < r ∨ (i = r ∧ j < 7))
      · rw [if_pos g, if_pos (by omega)]
      · rw [if_neg g, if_neg (show ¬ (i < 7 ∧ j < 7 ∧ (i < r + 1 ∨ (i = r + 1 ∧ j < 0))) by omega)]
        by_cases g2 : i = 7 ∧ j < 7 ∧ j < r
        · rw [if_pos g2, if_pos (by omega)]
        · rw [if_neg g2, if_neg (by omega)]
section
variable {wf fl : Int32} {a1 a2 a3 a4 a5 a6 a7 a8 a9 a10 a11 a12 : Nat → Int32}
theorem pc_l31 {post : St2 → Prop} {J : Int32 → (Nat → Int32) → (Nat → Int32) → (Nat → Int32) → (Nat → Int32) → (Nat → Int32) → (Nat → Int32) → (Nat → Int32) → (Nat → Int32) → (Nat → Int32) → (Nat → Int32) → (Nat → Int32) → (Nat → Int32) → Prop} {p q c w r : Nat} {x : Int32} (hr : r < 7) (k : pc_K p q c w x a1 a2 a3 a4 a5) (h6 : pc_LL p q c w r 0 a6)
    (H : ∀ s, pc_LL p q c w (r + 1) 0 s → J (nI (r + 1)) a1 a2 a3 a4 a5 s a7 a8 a9 a10 a11 a12) : ∃ n, wX_load_31 post J x (nI r) wf fl n 0 a1 a2 a3 a4 a5 a6 a7 a8 a9 a10 a11 a12 := by
  obtain ⟨hp, hq, hpq, hc, hw, kC, kS, k4, k5⟩ := k
  exact pk_loop (fun n i s => wX_load_31 post J x (nI r) wf fl n (nI i) a1 a2 a3 a4 a5 s a7 a8 a9 a10 a11 a12) (fun i s => pc_LL p q c w r i s) 7 0 a6 (by omega) h6
    (fun n s h => pk_le 7 7 (fun _ => pc_pull kS hr ⟨pk_in (63 + r) 81 (by omega) (pc_i63 r), nm_e (pc_sink k4 k5 hr ⟨pk_in (r * 9 + 8) 81 (by omega) (pc_ix8 r), nm_e (nm_r (nI_1 r) (H _ (by
      rw [pc_i63, pc_ix8, pc_cl (by omega), pc_cl (by omega)]
      exact pc_L2 hr h)))⟩)⟩) (fun z => absurd z (by omega)))
    (fun n i s hi h hw => pk_le 7 i (fun z => absurd z (by omega)) (fun _ => ⟨pk_in (r * 7 + i) 49 (by omega) (pc_ix7 r i), pk_in (r * 9 + i) 81 (by omega) (pc_ix9 r i), nm_e (nm_r (nI_1 i) (hw _ (by
      rw [pc_ix7, pc_ix9, pc_cl (by omega), pc_cl (by omega)]
      exact pc_L1 hr hi h (kC r i hr hi))))⟩))
theorem pc_l23 {post : St2 → Prop} {p q c w : Nat} {x : Int32} (k : pc_K p q c w x a1 a2 a3 a4 a5) (h6 : pc_LL p q c w 0 0 a6)
    (H : ∀ s, pc_LL p q c w 7 0 s → post (wf, fl, a1, a2, a3, a4, a5, s, a7, a8, a9, a10, a11, a12)) : ∃ n, wX_load_23 post x wf fl n 0 a1 a2 a3 a4 a5 a6 a7 a8 a9 a10 a11 a12 :=
  pk_loop (fun n i s => wX_load_23 post x wf fl n (nI i) a1 a2 a3 a4 a5 s a7 a8 a9 a10 a11 a12) (fun i s => pc_LL p q c w i 0 s) 7 0 a6 (by omega) h6
    (fun n s h => pk_le 7 7 (fun _ => H s h) (fun z => absurd z (by omega)))
    (fun n i s hi h hw => pk_le 7 i (fun z => absurd z (by omega)) (fun _ => pc_l31 hi k h hw))
theorem pc_load {post : St2 → Prop} {p q c w : Nat} {x : Int32} (k : pc_K p q c w x a1 a2 a3 a4 a5)
    (H : ∀ s, pc_LL p q c w 7 0 s → post (wf, fl, a1, a2, a3, a4, a5, s, a7, a8, a9, a10, a11, a12)) : wpX_load post (wf, fl, a1, a2, a3, a4, a5, a6, a7, a8, a9, a10, a11, a12) x := by
  have main : ∃ n, wX_load_2 post x wf fl n 0 a1 a2 a3 a4 a5 a6 a7 a8 a9 a10 a11 a12 :=
    pk_loop (fun n i s => wX_load_2 post x wf fl n (nI i) a1 a2 a3 a4 a5 s a7 a8 a9 a10 a11 a12) (fun i s => ∀ j, j < i → s j = (fun _ => 0) j) 81 0 a6 (by omega) (fun j hj => absurd hj (by omega))
      (fun n s h => pk_le 81 81 (fun _ => pc_l23 k (pc_L0 h) H) (fun z => absurd z (by omega)))
      (fun n i s hi h hw => pk_le 81 i (fun z => absurd z (by omega)) (fun _ => ⟨pk_in i 81 hi, nm_e (nm_r (nI_1 i) (hw _ (pc_fill (pc_cl (by omega)) h rfl)))⟩))
  exact main
end
end
section
/-! ===== findWay ===== -/
/-- how many of the first places came from nowhere -/
def pc_n (a : Nat → Int32) : Nat → Nat
  | 0 => 0
  | k + 1 => pc_n a k + (if 0 ≤ a k then 0 else 1)
theorem pc_n_all {a : Nat → Int32} : ∀ m, (∀ k, k < m → ¬ 0 ≤ a k) → pc_n a m = m
  | 0, _ => rfl
  | m + 1, h => by
    show pc_n a m + (if 0 ≤ a m then 0 else 1) = m + 1
    rw [pc_n_all m (fun k hk => h k (by omega)), if_neg (h m (by omega))]
theorem pc_n_same {a : Nat → Int32} {t : Nat} {x : Int32} : ∀ m, m ≤ t → pc_n (upd a t x) m = pc_n a m
  | 0, _ => rfl
  | m + 1, h => by
    show pc_n (upd a t x) m + (if 0 ≤ upd a t x m then 0 else 1) = pc_n a m + (if 0 ≤ a m then 0 else 1)
    rw [pc_n_same m (by omega), pk_un (show m ≠ t by omega)]
theorem pc_n_upd {a : Nat → Int32} {t : Nat} {x : Int32} (h : ¬ 0 ≤ a t) (hx : 0 ≤ x) : ∀ m, t < m → pc_n (upd a t x) m + 1 = pc_n a m
  | 0, z => absurd z (by omega)
  | m + 1, z => by
    show pc_n (upd a t x) m + (if 0 ≤ upd a t x m then 0 else 1) + 1 = pc_n a m + (if 0 ≤ a m then 0 else 1)
    by_cases e : m = t
    · subst e
      rw [pc_n_same m (by omega), pk_us, if_pos hx, if_neg h]
    · rw [pk_un e]
      have := pc_n_upd h hx m (by omega)
      omega
def pc_F (a6 a8 : Nat → Int32) : Prop :=
  (∀ w, w < 9 → w ≠ 7 → ¬ a6 (63 + w) ≤ 0 → a8 w = 7) ∧
  (∀ w, w < 9 → w ≠ 7 → 0 ≤ a8 w → ∃ p, p < 8 ∧ a8 w = nI p ∧ ¬ a6 (p * 9 + w) ≤ 0 ∧ 0 ≤ a8 p) ∧ a8 7 = 7
def pc_Z (a6 a8 : Nat → Int32) : Prop := ∀ p w, p < 9 → w < 9 → 0 ≤ a8 p → ¬ a6 (p * 9 + w) ≤ 0 → 0 ≤ a8 w
/-- the search: e nodes met, those ahead of the i-th done, of the i-th its first t places -/
def pc_B (a6 : Nat → Int32) (e i t : Nat) (s7 s8 : Nat → Int32) : Prop :=
  (1 ≤ e ∧ e + pc_n s8 9 = 9) ∧
  (∀ k, k < e → ∃ n, n < 9 ∧ s7 k = nI n ∧ 0 ≤ s8 n) ∧
  (s8 7 = 7 ∧ s7 0 = 7) ∧
  (∀ w, w < 9 → w ≠ 7 → 0 ≤ s8 w → ∃ p, p < 8 ∧ s8 w = nI p ∧ ¬ a6 (p * 9 + w) ≤ 0 ∧ 0 ≤ s8 p) ∧
  (∀ w, w < 9 → w ≠ 7 → ¬ a6 (63 + w) ≤ 0 → s8 w = 7 ∨ (i = 0 ∧ t ≤ w ∧ ¬ 0 ≤ s8 w)) ∧
  (∀ p, p < 9 → 0 ≤ s8 p → ∃ k, k < e ∧ s7 k = nI p) ∧
  (∀ k n w, k < e → n < 9 → w < 9 → s7 k = nI n → ¬ a6 (n * 9 + w) ≤ 0 → (k < i ∨ (k = i ∧ w < t)) → 0 ≤ s8 w)
theorem pc_B0 {a6 s7 s8 : Nat → Int32} (h : ∀ j, j < 9 → s8 j = (fun _ => (-1 : Int32)) j) : pc_B a6 1 0 0 (upd s7 0 7) (upd s8 7 7) := by
  have hm : ∀ j, j < 9 → ¬ 0 ≤ s8 j := fun j hj z => by
    rw [h j hj] at z
    exact pc_m1 z
  have hu : ∀ j, j < 9 → j ≠ 7 → ¬ 0 ≤ upd s8 7 7 j := fun j hj h7 => by
    rw [pk_un h7]
    exact hm j hj
  refine ⟨⟨by omega, ?_⟩, ?_, ⟨pk_us, pk_us⟩, ?_, ?_, ?_, ?_⟩
  · have h1 := pc_n_upd (a := s8) (t := 7) (x := 7) (hm 7 (by omega)) (by decide) 9 (by omega)
    rw [pc_n_all 9 hm] at h1
    omega
  · intro k hk
    obtain rfl : k = 0 := by omega
    exact ⟨7, by omega, pk_us, by rw [pk_us]; decide⟩
  · exact fun w hw h7 z => absurd z (hu w hw h7)
  · exact fun w hw h7 _ => Or.inr ⟨rfl, Nat.zero_le _, hu w hw h7⟩
  · intro p hp z
    by_cases e : p = 7
    · exact ⟨0, by omega, by rw [pk_us, e]; rfl⟩
    · exact absurd z (hu p hp e)
  · intro k n w _ _ _ _ _ z
    omega
theorem pc_Bs {a6 s7 s8 : Nat → Int32} {e i t n : Nat} (hB : pc_B a6 e i t s7 s8) (hi : i < e) (h7 : s7 i = nI n) (hn : n < 9) (ht : t < 9) (hs : 0 ≤ s8 t ∨ a6 (n * 9 + t) ≤ 0) : pc_B a6 e i (t + 1) s7 s8 := by
  obtain ⟨b1, b2, b3, b4, b5, b6, b7⟩ := hB
  refine ⟨b1, b2, b3, b4, ?_, b6, ?_⟩
  · intro w hw w7 hp
    rcases b5 w hw w7 hp with g | ⟨g1, g2, g3⟩
    · exact Or.inl g
    · by_cases e : w = t
      · subst e
        rcases hs with z | z
        · exact absurd z g3
        · subst g1
          have en : n = 7 := pc_inj (by omega) (by omega) (by rw [← h7, b3.2]; rfl)
          subst en
          exact absurd z hp
      · exact Or.inr ⟨g1, by omega, g3⟩
  · intro k m w hk hm hw hkm hp hc
    by_cases e : k = i ∧ w = t
    · obtain ⟨e1, e2⟩ := e
      subst e1 e2
      rcases hs with z | z
      · exact z
      · have em : m = n := pc_inj (by omega) (by omega) (by rw [← h7, ← hkm])
        subst em
        exact absurd z hp
    · exact b7 k m w hk hm hw hkm hp (by omega)
theorem pc_Bt {a6 s7 s8 : Nat → Int32} {e i t n : Nat} (hB : pc_B a6 e i t s7 s8) (hi : i < e) (h7 : s7 i = nI n) (hn : n < 8) (h8 : 0 ≤ s8 n) (ht : t < 9) (hs : ¬ 0 ≤ s8 t) (hp : ¬ a6 (n * 9 + t) ≤ 0) : pc_B a6 (e + 1) i (t + 1) (upd s7 e (nI t)) (upd s8 t (nI n)) := by
  obtain ⟨b1, b2, b3, b4, b5, b6, b7⟩ := hB
  have hm : ∀ m, 0 ≤ s8 m → 0 ≤ upd s8 t (nI n) m := fun m z => by
    by_cases em : m = t
    · rw [em, pk_us]
      exact nI_pos' (by omega)
    · rw [pk_un em]
      exact z
  have h1 := pc_n_upd (a := s8) (t := t) (x := nI n) hs (nI_pos' (by omega)) 9 ht
  have t7 : t ≠ 7 := fun z => hs (by rw [z, b3.1]; decide)
  refine ⟨⟨by omega, by omega⟩, ?_, ⟨?_, ?_⟩, ?_, ?_, ?_, ?_⟩
  · intro k hk
    by_cases ek : k = e
    · exact ⟨t, ht, by rw [ek, pk_us], by rw [pk_us]; exact nI_pos' (by omega)⟩
    · obtain ⟨m, m1, m2, m3⟩ := b2 k (by omega)
      exact ⟨m, m1, by rw [pk_un ek]; exact m2, hm m m3⟩
  · rw [pk_un (Ne.symm t7)]
    exact b3.1
  · rw [pk_un (show 0 ≠ e by omega)]
    exact b3.2
  · intro w hw w7 z
    by_cases ew : w = t
    · exact ⟨n, hn, by rw [ew, pk_us], by rw [ew]; exact hp, hm n h8⟩
    · rw [pk_un ew] at z
      obtain ⟨m, m1, m2, m3, m4⟩ := b4 w hw w7 z
      exact ⟨m, m1, by rw [pk_un ew]; exact m2, m3, hm m m4⟩
  · intro w hw w7 z
    rcases b5 w hw w7 z with g | ⟨g1, g2, g3⟩
    · by_cases ew : w = t
      · exact absurd (by rw [← ew, g]; decide) hs
      · exact Or.inl (by rw [pk_un ew]; exact g)
    · by_cases ew : w = t
      · subst g1
        have en : n = 7 := pc_inj (by omega) (by omega) (by rw [← h7, b3.2]; rfl)
        exact Or.inl (by rw [ew, pk_us, en]; rfl)
      · exact Or.inr ⟨g1, by omega, by rw [pk_un ew]; exact g3⟩
  · intro m hm' z
    by_cases em : m = t
    · exact ⟨e, by omega, by rw [pk_us, em]⟩
    · rw [pk_un em] at z
      obtain ⟨k, k1, k2⟩ := b6 m hm' z
      exact ⟨k, by omega, by rw [pk_un (show k ≠ e by omega)]; exact k2⟩
  · intro k m w hk hm' hw hkm z hc
    by_cases ew : w = t
    · rw [ew, pk_us]
      exact nI_pos' (by omega)
    · have ke : k < e := by omega
      rw [pk_un (show k ≠ e by omega)] at hkm
      exact hm w (b7 k m w ke hm' hw hkm z (by omega))
theorem pc_Bn {a6 s7 s8 : Nat → Int32} {e i : Nat} (hB : pc_B a6 e i 9 s7 s8) : pc_B a6 e (i + 1) 0 s7 s8 := by
  obtain ⟨b1, b2, b3, b4, b5, b6, b7⟩ := hB
  refine ⟨b1, b2, b3, b4, ?_, b6, ?_⟩
  · intro w hw w7 z
    rcases b5 w hw w7 z with g | ⟨_, g2, _⟩
    · exact Or.inl g
    · exact absurd g2 (by omega)
  · exact fun k m w hk hm hw hkm hp hc => b7 k m w hk hm hw hkm hp (by omega)
theorem pc_BF {a6 s7 s8 : Nat → Int32} {e i : Nat} (hB : pc_B a6 e i 0 s7 s8) (hi : 1 ≤ i) : pc_F a6 s8 := by
  obtain ⟨b1, b2, b3, b4, b5, b6, b7⟩ := hB
  refine ⟨?_, b4, b3.1⟩
  intro w hw w7 z
  rcases b5 w hw w7 z with g | ⟨g1, _, _⟩
  · exact g
  · exact absurd g1 (by omega)
theorem pc_BZ {a6 s7 s8 : Nat → Int32} {e i : Nat} (hB : pc_B a6 e i 0 s7 s8) (hi : e ≤ i) : pc_Z a6 s8 := by
  obtain ⟨b1, b2, b3, b4, b5, b6, b7⟩ := hB
  intro p w hp hw z zp
  obtain ⟨k, k1, k2⟩ := b6 p hp z
  exact b7 k p w k1 hp hw k2 zp (Or.inl (by omega))
section
variable {wf fl : Int32} {a1 a2 a3 a4 a5 a6 a7 a8 a9 a10 a11 a12 : Nat → Int32}
theorem pc_59 {post : Int32 → St2 → Prop} {J : Int32 → Int32 → (Nat → Int32) → (Nat → Int32) → (Nat → Int32) → (Nat → Int32) → (Nat → Int32) → (Nat → Int32) → (Nat → Int32) → (Nat → Int32) → (Nat → Int32) → (Nat → Int32) → (Nat → Int32) → (Nat → Int32) → Prop} {e i n : Nat} (hi : i < e) (hn : n < 8) (h7 : a7 i = nI n) (hB : pc_B a6 e i 0 a7 a8)
    (H : ∀ e' s7 s8, i < e' → pc_B a6 e' i 9 s7 s8 → J (nI e') (nI (i + 1)) a1 a2 a3 a4 a5 a6 s7 s8 a9 a10 a11 a12) : ∃ f, wX_findWay_59 post J (nI i) wf fl f (nI e) 0 a1 a2 a3 a4 a5 a6 a7 a8 a9 a10 a11 a12 := by
  refine pk_loop (σ := Nat × (Nat → Int32) × (Nat → Int32)) (fun f t s => wX_findWay_59 post J (nI i) wf fl f (nI s.1) (nI t) a1 a2 a3 a4 a5 a6 s.2.1 s.2.2 a9 a10 a11 a12) (fun t s => i < s.1 ∧ s.2.1 i = nI n ∧ pc_B a6 s.1 i t s.2.1 s.2.2) 9 0 (e, a7, a8) (by omega) ⟨hi, h7, hB⟩ ?_ ?_
  · exact fun f s h => pk_le 9 9 (fun _ => nm_r (nI_1 i) (H s.1 s.2.1 s.2.2 h.1 h.2.2)) (fun z => absurd z (by omega))
  · intro f t s ht h hw
    obtain ⟨e, s7, s8⟩ := s
    obtain ⟨hi, h7, hB⟩ := h
    dsimp only at hi h7 hB
    have he := hB.1.2
    have h8 : 0 ≤ s8 n := by
      obtain ⟨m, m1, m2, m3⟩ := hB.2.1 i hi
      have em : m = n := pc_inj (by omega) (by omega) (by rw [← h7, ← m2])
      rw [← em]
      exact m3
    refine pk_le 9 t (fun z => absurd z (by omega)) (fun _ => ⟨pk_in t 9 ht, ?_⟩)
    rw [pc_cl (n := t) (by omega)]
    refine br_c (fun g => nm_r (nI_1 t) (hw (e, s7, s8) ⟨hi, h7, pc_Bs hB hi h7 (by omega) ht (Or.inl g)⟩)) (fun g => ⟨pk_in i 9 (by omega), ?_⟩)
    dsimp only
    rw [pc_cl (n := i) (by omega), h7, pc_ix9, pc_cl (n := n * 9 + t) (by omega)]
    refine ⟨pk_in (n * 9 + t) 81 (by omega), br_c (fun g2 => nm_r (nI_1 t) (hw (e, s7, s8) ⟨hi, h7, pc_Bs hB hi h7 (by omega) ht (Or.inr g2)⟩)) (fun g2 => ?_)⟩
    have h1 := pc_n_upd (a := s8) (t := t) (x := nI n) g (nI_pos' (by omega)) 9 ht
    rw [pc_cl (n := e) (by omega)]
    refine ⟨pk_in i 9 (by omega), pk_in t 9 ht, nm_e ⟨pk_in e 9 (by omega), nm_e (nm_r (nI_1 e) (nm_r (nI_1 t) (hw (e + 1, upd s7 e (nI t), upd s8 t (nI n)) ⟨?_, ?_, pc_Bt hB hi h7 hn h8 ht g g2⟩)))⟩⟩
    · show i < e + 1
      omega
    · show upd s7 e (nI t) i = nI n
      rw [pk_un (show i ≠ e by omega)]
      exact h7
theorem pc_127 {post : Int32 → St2 → Prop} (hF : pc_F a6 a8) (hZ : ¬ 0 ≤ a8 8 → pc_Z a6 a8)
    (H0 : ∀ s7 s8, pc_F a6 s8 → pc_Z a6 s8 → ¬ 0 ≤ s8 8 → post 0 (wf, fl, a1, a2, a3, a4, a5, a6, s7, s8, a9, a10, a11, a12)) (H1 : ∀ s7 s8, pc_F a6 s8 → 0 ≤ s8 8 → post 1 (wf, fl, a1, a2, a3, a4, a5, a6, s7, s8, a9, a10, a11, a12)) : wX_findWay_127 post wf fl a1 a2 a3 a4 a5 a6 a7 a8 a9 a10 a11 a12 := by
  by_cases g : 0 ≤ a8 8
  · exact br_f (pc_nle g) (H1 a7 a8 hF g)
  · exact br_t (pc_nlt g) (H0 a7 a8 hF (hZ g) g)
theorem pc_42 {post : Int32 → St2 → Prop} (h8 : ¬ 0 ≤ a8 8) (hB : pc_B a6 1 0 0 a7 a8)
    (H0 : ∀ s7 s8, pc_F a6 s8 → pc_Z a6 s8 → ¬ 0 ≤ s8 8 → post 0 (wf, fl, a1, a2, a3, a4, a5, a6, s7, s8, a9, a10, a11, a12)) (H1 : ∀ s7 s8, pc_F a6 s8 → 0 ≤ s8 8 → post 1 (wf, fl, a1, a2, a3, a4, a5, a6, s7, s8, a9, a10, a11, a12)) : ∃ f, wX_findWay_42 post wf fl f 1 0 a1 a2 a3 a4 a5 a6 a7 a8 a9 a10 a11 a12 := by
  refine loop_m (σ := Nat × Nat × (Nat → Int32) × (Nat → Int32)) (fun f s => wX_findWay_42 post wf fl f (nI s.1) (nI s.2.1) a1 a2 a3 a4 a5 a6 s.2.2.1 s.2.2.2 a9 a10 a11 a12) (fun s => s.2.1 ≤ s.1 ∧ (s.2.1 = 0 → ¬ 0 ≤ s.2.2.2 8) ∧ pc_B a6 s.1 s.2.1 0 s.2.2.1 s.2.2.2) (fun s => 9 - s.2.1) ?_ (1, 0, a7, a8) ⟨Nat.zero_le 1, fun _ => h8, hB⟩
  intro f s h hw
  obtain ⟨e, i, s7, s8⟩ := s
  obtain ⟨hi, h0, hB⟩ := h
  dsimp only at hi h0 hB
  have he := hB.1
  refine pk_le e i (fun z => pc_127 (pc_BF hB (by omega)) (fun _ => pc_BZ hB z) H0 H1) (fun z => br_c (fun g => ?_) (fun g => ?_)) rfl rfl (by omega) (by omega)
  · have i1 : 1 ≤ i := by
      rcases Nat.eq_zero_or_pos i with y | y
      · exact absurd g (h0 y)
      · exact y
    exact pc_127 (pc_BF hB i1) (fun y => absurd g y) H0 H1
  · obtain ⟨n, n1, n2, n3⟩ := hB.2.1 i z
    have n8 : n ≠ 8 := fun y => g (by rw [← y]; exact n3)
    exact pc_59 z (by omega) n2 hB (fun e' s7' s8' hi' hB' => hw (e', i + 1, s7', s8') ⟨hi', fun y => absurd y (Nat.succ_ne_zero i), pc_Bn hB'⟩ (by
      show 9 - (i + 1) < 9 - i
      omega))
theorem pc_fw {post : Int32 → St2 → Prop}
    (H0 : ∀ s7 s8, pc_F a6 s8 → pc_Z a6 s8 → ¬ 0 ≤ s8 8 → post 0 (wf, fl, a1, a2, a3, a4, a5, a6, s7, s8, a9, a10, a11, a12)) (H1 : ∀ s7 s8, pc_F a6 s8 → 0 ≤ s8 8 → post 1 (wf, fl, a1, a2, a3, a4, a5, a6, s7, s8, a9, a10, a11, a12)) : wpX_findWay post (wf, fl, a1, a2, a3, a4, a5, a6, a7, a8, a9, a10, a11, a12) := by
  have main : ∃ n, wX_findWay_2 post wf fl n 0 a1 a2 a3 a4 a5 a6 a7 a8 a9 a10 a11 a12 :=
    pk_loop (fun n i s => wX_findWay_2 post wf fl n (nI i) a1 a2 a3 a4 a5 a6 a7 s a9 a10 a11 a12) (fun i s => ∀ j, j < i → s j = (fun _ => (-1 : Int32)) j) 9 0 a8 (by omega) (fun j hj => absurd hj (by omega))
      (fun n s h => pk_le 9 9 (fun _ => nm_e (nm_e (pc_42 (by
        rw [pk_un (show 8 ≠ 7 by omega), h 8 (by omega)]
        exact pc_m1) (pc_B0 h) H0 H1))) (fun z => absurd z (by omega)))
      (fun n i s hi h hw => pk_le 9 i (fun z => absurd z (by omega)) (fun _ => ⟨pk_in i 9 hi, nm_e (nm_r (nI_1 i) (hw _ (pc_fill (pc_cl (by omega)) h rfl)))⟩))
  exact main
end
end
section
/-! ===== narrowest, push, grow ===== -/
def pc_P (a : Nat → Int32) (m n : Nat) (x : Int32) : Nat → Int32 := upd (upd a (m * 9 + n) (a (m * 9 + n) - x)) (n * 9 + m) (upd a (m * 9 + n) (a (m * 9 + n) - x) (n * 9 + m) + x)
theorem pc_Pn {a : Nat → Int32} {m n k : Nat} {x : Int32} (h1 : k ≠ m * 9 + n) (h2 : k ≠ n * 9 + m) : pc_P a m n x k = a k := by
  unfold pc_P
  rw [pk_un h2, pk_un h1]
theorem pc_Ps {a : Nat → Int32} {m n : Nat} {x : Int32} (h : m * 9 + n ≠ n * 9 + m) : pc_P a m n x (m * 9 + n) = a (m * 9 + n) - x := by
  unfold pc_P
  rw [pk_un h, pk_us]
/-- what is left, as far as it matters: 7 to p is A, 7 to q is B, p to q is c, q to 8 is D; nothing else leads to 8, nothing but 7, p and 8 to q -/
def pc_G (p q A B c D : Nat) (a : Nat → Int32) : Prop :=
  a (63 + p) = nI A ∧ a (63 + q) = nI B ∧ a (p * 9 + q) = nI c ∧ a (q * 9 + 8) = nI D ∧
  (∀ w, w < 8 → w ≠ q → a (w * 9 + 8) ≤ 0) ∧ (∀ w, w < 9 → w ≠ 7 → w ≠ p → w ≠ 8 → a (w * 9 + q) ≤ 0)
theorem pc_G1 {p q A B c D : Nat} {a : Nat → Int32} (hp : p < 7) (hq : q < 7) (hpq : p ≠ q) (hB : B ≤ D) (h : pc_G p q A B c D a) : pc_G p q A 0 c (D - B) (pc_P (pc_P a q 8 (nI B)) 7 q (nI B)) := by
  obtain ⟨g1, g2, g3, g4, g5, g6⟩ := h
  refine ⟨?_, ?_, ?_, ?_, ?_, ?_⟩
  · rw [pc_Pn (by omega) (by omega), pc_Pn (by omega) (by omega), g1]
  · show pc_P (pc_P a q 8 (nI B)) 7 q (nI B) (7 * 9 + q) = _
    rw [pc_Ps (by omega), pc_Pn (by omega) (by omega)]
    show a (63 + q) - nI B = _
    rw [g2, pk_sub (Nat.le_refl B), Nat.sub_self]
  · rw [pc_Pn (by omega) (by omega), pc_Pn (by omega) (by omega), g3]
  · rw [pc_Pn (by omega) (by omega), pc_Ps (by omega), g4, pk_sub hB]
  · intro w hw wq
    rw [pc_Pn (by omega) (by omega), pc_Pn (by omega) (by omega)]
    exact g5 w hw wq
  · intro w hw w7 wp w8
    rw [pc_Pn (by omega) (by omega), pc_Pn (by omega) (by omega)]
    exact g6 w hw w7 wp w8
theorem pc_G2 {p q A c D : Nat} {a : Nat → Int32} (hp : p < 7) (hq : q < 7) (hpq : p ≠ q) (hA : c ≤ A) (hD : c ≤ D) (h : pc_G p q A 0 c D a) : pc_G p q (A - c) 0 0 (D - c) (pc_P (pc_P (pc_P a q 8 (nI c)) p q (nI c)) 7 p (nI c)) := by
  obtain ⟨g1, g2, g3, g4, g5, g6⟩ := h
  refine ⟨?_, ?_, ?_, ?_, ?_, ?_⟩
  · show pc_P (pc_P (pc_P a q 8 (nI c)) p q (nI c)) 7 p (nI c) (7 * 9 + p) = _
    rw [pc_Ps (by omega), pc_Pn (by omega) (by omega), pc_Pn (by omega) (by omega)]
    show a (63 + p) - nI c = _
    rw [g1, pk_sub hA]
  · rw [pc_Pn (by omega) (by omega), pc_Pn (by omega) (by omega), pc_Pn (by omega) (by omega), g2]
  · rw [pc_Pn (by omega) (by omega), pc_Ps (by omega), pc_Pn (by omega) (by omega), g3, pk_sub (Nat.le_refl c), Nat.sub_self]
  · rw [pc_Pn (by omega) (by omega), pc_Pn (by omega) (by omega), pc_Ps (by omega), g4, pk_sub hD]
  · intro w hw wq
    rw [pc_Pn (by omega) (by omega), pc_Pn (by omega) (by omega), pc_Pn (by omega) (by omega)]
    exact g5 w hw wq
  · intro w hw w7 wp w8
    rw [pc_Pn (by omega) (by omega), pc_Pn (by omega) (by omega), pc_Pn (by omega) (by omega)]
    exact g6 w hw w7 wp w8
section
variable {wf fl : Int32} {a1 a2 a3 a4 a5 a6 a7 a8 a9 a10 a11 a12 : Nat → Int32}
theorem pc_ns {post : Int32 → Prop} {f i l m n r : Nat} (hi : i < 9) (hn : n < 9) (n7 : n ≠ 7) (hm : m < 9) (h8 : a8 n = nI m) (h6 : a6 (m * 9 + n) = nI r) (hl : l < 2 ^ 31) (hr : r < 2 ^ 31)
    (H : wX_narrowest_8 post wf fl a1 a2 a3 a4 a5 a6 a7 a8 a9 a10 a11 a12 f (nI (min l r)) (nI m) (nI (i + 1))) : wX_narrowest_8 post wf fl a1 a2 a3 a4 a5 a6 a7 a8 a9 a10 a11 a12 (f + 1) (nI l) (nI n) (nI i) := by
  refine pk_le 9 i (fun z => absurd z (by omega)) (fun _ => pk_eq n 7 (fun z => absurd z n7) (fun _ => ?_))
  rw [pc_cl (n := n) (by omega), h8, pc_ix9 m n, pc_cl (n := m * 9 + n) (by omega), h6]
  refine ⟨pk_in n 9 hn, pk_in (m * 9 + n) 81 (by omega), nm_e (pk_le l r (fun z => ⟨pk_in n 9 hn, nm_e (nm_r (nI_1 i) ?_)⟩) (fun z => ⟨pk_in n 9 hn, nm_e (nm_r (nI_1 i) ?_)⟩))⟩
  · rw [Nat.min_eq_left z] at H
    exact H
  · rw [Nat.min_eq_right (by omega)] at H
    exact H
theorem pc_ne {post : Int32 → Prop} {f i : Nat} {x : Int32} (hi : i < 9) (H : post x) : wX_narrowest_8 post wf fl a1 a2 a3 a4 a5 a6 a7 a8 a9 a10 a11 a12 (f + 1) x (nI 7) (nI i) :=
  pk_le 9 i (fun z => absurd z (by omega)) (fun _ => br_t rfl H)
theorem pc_nar2 {post : Int32 → Prop} {q B D : Nat} (hq : q < 7) (h8 : a8 8 = nI q) (hq8 : a8 q = 7) (hD : a6 (q * 9 + 8) = nI D) (hB : a6 (63 + q) = nI B) (b1 : B ≤ D) (b2 : B ≤ 200000) (b3 : D < 2 ^ 31) (H : post (nI B)) : wpX_narrowest post (wf, fl, a1, a2, a3, a4, a5, a6, a7, a8, a9, a10, a11, a12) := by
  have main : wX_narrowest_8 post wf fl a1 a2 a3 a4 a5 a6 a7 a8 a9 a10 a11 a12 3 (nI 200000) (nI 8) (nI 0) :=
    pc_ns (m := q) (by omega) (by omega) (by omega) (by omega) h8 hD (by omega) b3
      (pc_ns (m := 7) (r := B) (by omega) (by omega) (by omega) (by omega) hq8 hB (by omega) (by omega)
        (pc_ne (by omega) (by rw [show min (min 200000 D) B = B by omega]; exact H)))
  exact ⟨3, main⟩
theorem pc_nar3 {post : Int32 → Prop} {p q A c D : Nat} (hp : p < 7) (hq : q < 7) (h8 : a8 8 = nI q) (hq8 : a8 q = nI p) (hp8 : a8 p = 7) (hD : a6 (q * 9 + 8) = nI D) (hc : a6 (p * 9 + q) = nI c) (hA : a6 (63 + p) = nI A) (b1 : c ≤ D) (b2 : c ≤ 200000) (b3 : D < 2 ^ 31) (b4 : c ≤ A) (b5 : A < 2 ^ 31) (H : post (nI c)) : wpX_narrowest post (wf, fl, a1, a2, a3, a4, a5, a6, a7, a8, a9, a10, a11, a12) := by
  have main : wX_narrowest_8 post wf fl a1 a2 a3 a4 a5 a6 a7 a8 a9 a10 a11 a12 4 (nI 200000) (nI 8) (nI 0) :=
    pc_ns (m := q) (by omega) (by omega) (by omega) (by omega) h8 hD (by omega) b3
      (pc_ns (m := p) (by omega) (by omega) (by omega) (by omega) hq8 hc (by omega) (by omega)
        (pc_ns (m := 7) (r := A) (by omega) (by omega) (by omega) (by omega) hp8 hA (by omega) b5
          (pc_ne (by omega) (by rw [show min (min (min 200000 D) c) A = c by omega]; exact H))))
  exact ⟨4, main⟩
theorem pc_ps {post : St2 → Prop} {x : Int32} {f i m n : Nat} (hi : i < 9) (hn : n < 9) (n7 : n ≠ 7) (hm : m < 9) (h8 : a8 n = nI m)
    (H : wX_push_5 post x wf fl f (nI m) (nI (i + 1)) a1 a2 a3 a4 a5 (pc_P a6 m n x) a7 a8 a9 a10 a11 a12) : wX_push_5 post x wf fl (f + 1) (nI n) (nI i) a1 a2 a3 a4 a5 a6 a7 a8 a9 a10 a11 a12 := by
  refine pk_le 9 i (fun z => absurd z (by omega)) (fun _ => pk_eq n 7 (fun z => absurd z n7) (fun _ => ?_))
  rw [pc_cl (n := n) (by omega), h8, pc_ix9 m n, pc_ix9 n m, pc_cl (n := m * 9 + n) (by omega), pc_cl (n := n * 9 + m) (by omega)]
  exact ⟨pk_in n 9 hn, pk_in (m * 9 + n) 81 (by omega), pk_in (m * 9 + n) 81 (by omega), nm_e ⟨pk_in n 9 hn, pk_in (n * 9 + m) 81 (by omega), pk_in (n * 9 + m) 81 (by omega), nm_e ⟨pk_in n 9 hn, nm_e (nm_r (nI_1 i) H)⟩⟩⟩
theorem pc_pe {post : St2 → Prop} {x : Int32} {f i : Nat} (hi : i < 9) (H : post (wf, fl, a1, a2, a3, a4, a5, a6, a7, a8, a9, a10, a11, a12)) : wX_push_5 post x wf fl (f + 1) (nI 7) (nI i) a1 a2 a3 a4 a5 a6 a7 a8 a9 a10 a11 a12 :=
  pk_le 9 i (fun z => absurd z (by omega)) (fun _ => br_t rfl H)
theorem pc_push2 {post : St2 → Prop} {x : Int32} {q : Nat} (hq : q < 7) (h8 : a8 8 = nI q) (hq8 : a8 q = 7) (H : post (wf, fl, a1, a2, a3, a4, a5, pc_P (pc_P a6 q 8 x) 7 q x, a7, a8, a9, a10, a11, a12)) : wpX_push post (wf, fl, a1, a2, a3, a4, a5, a6, a7, a8, a9, a10, a11, a12) x := by
  have main : wX_push_5 post x wf fl 3 (nI 8) (nI 0) a1 a2 a3 a4 a5 a6 a7 a8 a9 a10 a11 a12 :=
    pc_ps (m := q) (by omega) (by omega) (by omega) (by omega) h8
      (pc_ps (m := 7) (by omega) (by omega) (by omega) (by omega) hq8 (pc_pe (by omega) H))
  exact ⟨3, main⟩
theorem pc_push3 {post : St2 → Prop} {x : Int32} {p q : Nat} (hp : p < 7) (hq : q < 7) (h8 : a8 8 = nI q) (hq8 : a8 q = nI p) (hp8 : a8 p = 7) (H : post (wf, fl, a1, a2, a3, a4, a5, pc_P (pc_P (pc_P a6 q 8 x) p q x) 7 p x, a7, a8, a9, a10, a11, a12)) : wpX_push post (wf, fl, a1, a2, a3, a4, a5, a6, a7, a8, a9, a10, a11, a12) x := by
  have main : wX_push_5 post x wf fl 4 (nI 8) (nI 0) a1 a2 a3 a4 a5 a6 a7 a8 a9 a10 a11 a12 :=
    pc_ps (m := q) (by omega) (by omega) (by omega) (by omega) h8
      (pc_ps (m := p) (by omega) (by omega) (by omega) (by omega) hq8
        (pc_ps (m := 7) (by omega) (by omega) (by omega) (by omega) hp8 (pc_pe (by omega) H)))
  exact ⟨4, main⟩
theorem pc_gl {post : St2 → Prop} {p q : Nat} (hp : p < 7) (hq : q < 7) (hpq : p ≠ q) : ∀ (k A B c D f i n : Nat) (s6 s7 s8 : Nat → Int32) (r : Int32),
    c < A → A < 1000000 → B ≤ 1000 → c ≤ 1000 → B + c < D → D < 1000000 → pc_G p q A B c D s6 → pc_F s6 s8 →
    ((r = 0 ∧ pc_Z s6 s8 ∧ ¬ 0 ≤ s8 8) ∨ (r = 1 ∧ 0 ≤ s8 8)) → (0 < B → 1 ≤ k) → (0 < c → 1 ≤ k) → (0 < B → 0 < c → 2 ≤ k) → i + k < 1000 → k < n →
    (∀ t6 t7 t8, post (wf, nI (f + B + c), a1, a2, a3, a4, a5, t6, t7, t8, a9, a10, a11, a12)) → wX_grow_12 post n r (nI i) wf (nI f) a1 a2 a3 a4 a5 s6 s7 s8 a9 a10 a11 a12 := by
  intro k
  induction k with
  | zero =>
    intro A B c D f i n s6 s7 s8 r hcA hA hB hc hD hD' hG hF hr kB kc kBc hi hn H
    have B0 : B = 0 := by
      rcases Nat.eq_zero_or_pos B with z | z
      · exact z
      · exact absurd (kB z) (by omega)
    have c0 : c = 0 := by
      rcases Nat.eq_zero_or_pos c with z | z
      · exact z
      · exact absurd (kc z) (by omega)
    subst B0 c0
    obtain ⟨n, rfl⟩ : ∃ m, n = m + 1 := ⟨n - 1, by omega⟩
    refine pk_le 1000 i (fun z => absurd z (by omega)) (fun _ => ?_)
    rcases hr with ⟨r0, _, _⟩ | ⟨r1, h8⟩
    · exact br_t r0 (H s6 s7 s8)
    · exfalso
      obtain ⟨g1, g2, g3, g4, g5, g6⟩ := hG
      obtain ⟨m, m1, m2, m3, m4⟩ := hF.2.1 8 (by omega) (by omega) h8
      have mq : m = q := by
        rcases Nat.decEq m q with z | z
        · exact absurd (g5 m m1 z) m3
        · exact z
      subst mq
      obtain ⟨w, w1, w2, w3, w4⟩ := hF.2.1 m (by omega) (by omega) m4
      by_cases w7 : w = 7
      · subst w7
        exact w3 (by
          show s6 (63 + m) ≤ 0
          rw [g2]
          decide)
      · by_cases wp : w = p
        · subst wp
          exact w3 (by rw [g3]; decide)
        · exact w3 (g6 w (by omega) w7 wp (by omega))
  | succ k ih =>
    intro A B c D f i n s6 s7 s8 r hcA hA hB hc hD hD' hG hF hr kB kc kBc hi hn H
    obtain ⟨n, rfl⟩ : ∃ m, n = m + 1 := ⟨n - 1, by omega⟩
    have hG' := hG
    obtain ⟨g1, g2, g3, g4, g5, g6⟩ := hG'
    have hpA : ¬ s6 (63 + p) ≤ 0 := by
      rw [g1]
      exact nI_nle (by omega) (by omega)
    have hp8 : s8 p = 7 := hF.1 p (by omega) (by omega) hpA
    have hqD : ¬ s6 (q * 9 + 8) ≤ 0 := by
      rw [g4]
      exact nI_nle (by omega) (by omega)
    refine pk_le 1000 i (fun z => absurd z (by omega)) (fun _ => ?_)
    rcases hr with ⟨r0, hZ, h8⟩ | ⟨r1, h8⟩
    · have hq8 : ¬ 0 ≤ s8 q := fun z => h8 (hZ q 8 (by omega) (by omega) z hqD)
      have B0 : B = 0 := by
        refine pc_z0 (by omega) ?_
        rw [← g2]
        refine Decidable.byContradiction (fun z => hq8 ?_)
        exact hZ 7 q (by omega) (by omega) (by rw [hF.2.2]; decide) z
      have c0 : c = 0 := by
        refine pc_z0 (by omega) ?_
        rw [← g3]
        refine Decidable.byContradiction (fun z => hq8 ?_)
        exact hZ p q (by omega) (by omega) (by rw [hp8]; decide) z
      subst B0 c0
      exact br_t r0 (H s6 s7 s8)
    · refine br_f (by rw [r1]; decide) ?_
      obtain ⟨m, m1, m2, m3, m4⟩ := hF.2.1 8 (by omega) (by omega) h8
      have mq : m = q := by
        rcases Nat.decEq m q with z | z
        · exact absurd (g5 m m1 z) m3
        · exact z
      subst mq
      by_cases B0 : B = 0
      · subst B0
        obtain ⟨w, w1, w2, w3, w4⟩ := hF.2.1 m (by omega) (by omega) m4
        have wp : w = p := by
          by_cases w7 : w = 7
          · subst w7
            exact absurd (show s6 (63 + m) ≤ 0 by rw [g2]; decide) w3
          · by_cases wp : w = p
            · exact wp
            · exact absurd (g6 w (by omega) w7 wp (by omega)) w3
        subst wp
        have c0 : c ≠ 0 := fun z => w3 (by rw [g3, z]; decide)
        refine pc_nar3 hp hq m2 w2 hp8 g4 g3 g1 (by omega) (by omega) (by omega) (by omega) (by omega) (pc_push3 hp hq m2 w2 hp8 (nm_r (nI_add f c) ?_))
        have H' : ∀ t6 t7 t8, post (wf, nI ((f + c) + 0 + 0), a1, a2, a3, a4, a5, t6, t7, t8, a9, a10, a11, a12) := fun t6 t7 t8 => by
          have := H t6 t7 t8
          rw [Nat.add_zero f] at this
          exact this
        refine pc_fw (fun s7' s8' hF' hZ' h8' => nm_r (nI_1 i) ?_) (fun s7' s8' hF' h8' => nm_r (nI_1 i) ?_)
        · exact ih (A - c) 0 0 (D - c) (f + c) (i + 1) n _ _ _ _ (by omega) (by omega) (by omega) (by omega) (by omega) (by omega) (pc_G2 hp hq hpq (by omega) (by omega) hG) hF' (Or.inl ⟨rfl, hZ', h8'⟩) (by omega) (by omega) (by omega) (by omega) (by omega) H'
        · exact ih (A - c) 0 0 (D - c) (f + c) (i + 1) n _ _ _ _ (by omega) (by omega) (by omega) (by omega) (by omega) (by omega) (pc_G2 hp hq hpq (by omega) (by omega) hG) hF' (Or.inr ⟨rfl, h8'⟩) (by omega) (by omega) (by omega) (by omega) (by omega) H'
      · have hq7 : s8 m = 7 := hF.1 m (by omega) (by omega) (by
          rw [g2]
          exact nI_nle (by omega) (by omega))
        refine pc_nar2 hq m2 hq7 g4 g2 (by omega) (by omega) (by omega) (pc_push2 hq m2 hq7 (nm_r (nI_add f B) ?_))
        have H' : ∀ t6 t7 t8, post (wf, nI ((f + B) + 0 + c), a1, a2, a3, a4, a5, t6, t7, t8, a9, a10, a11, a12) := H
        refine pc_fw (fun s7' s8' hF' hZ' h8' => nm_r (nI_1 i) ?_) (fun s7' s8' hF' h8' => nm_r (nI_1 i) ?_)
        · exact ih A 0 c (D - B) (f + B) (i + 1) n _ _ _ _ (by omega) (by omega) (by omega) (by omega) (by omega) (by omega) (pc_G1 hp hq hpq (by omega) hG) hF' (Or.inl ⟨rfl, hZ', h8'⟩) (by omega) (by omega) (by omega) (by omega) (by omega) H'
        · exact ih A 0 c (D - B) (f + B) (i + 1) n _ _ _ _ (by omega) (by omega) (by omega) (by omega) (by omega) (by omega) (pc_G1 hp hq hpq (by omega) hG) hF' (Or.inr ⟨rfl, h8'⟩) (by omega) (by omega) (by omega) (by omega) (by omega) H'
theorem pc_grow {post : St2 → Prop} {p q A B c D : Nat} (hp : p < 7) (hq : q < 7) (hpq : p ≠ q) (hcA : c < A) (hA : A < 1000000) (hB : B ≤ 1000) (hc : c ≤ 1000) (hD : B + c < D) (hD' : D < 1000000) (hG : pc_G p q A B c D a6)
    (H : ∀ t6 t7 t8, post (wf, nI (B + c), a1, a2, a3, a4, a5, t6, t7, t8, a9, a10, a11, a12)) : wpX_grow post (wf, fl, a1, a2, a3, a4, a5, a6, a7, a8, a9, a10, a11, a12) := by
  have H' : ∀ t6 t7 t8, post (wf, nI (0 + B + c), a1, a2, a3, a4, a5, t6, t7, t8, a9, a10, a11, a12) := fun t6 t7 t8 => by
    rw [Nat.zero_add]
    exact H t6 t7 t8
  unfold wpX_grow
  exact pc_fw (fun s7 s8 hF hZ h8 => ⟨3, pc_gl hp hq hpq 2 A B c D 0 0 3 _ _ _ _ hcA hA hB hc hD hD' hG hF (Or.inl ⟨rfl, hZ, h8⟩) (by omega) (by omega) (by omega) (by omega) (by omega) H'⟩)
    (fun s7 s8 hF h8 => ⟨3, pc_gl hp hq hpq 2 A B c D 0 0 3 _ _ _ _ hcA hA hB hc hD hD' hG hF (Or.inr ⟨rfl, h8⟩) (by omega) (by omega) (by omega) (by omega) (by omega) H'⟩)
theorem pc_grow0 {post : St2 → Prop} (h6 : ∀ w, w < 8 → a6 (w * 9 + 8) ≤ 0) (H : ∀ s7 s8, post (wf, 0, a1, a2, a3, a4, a5, a6, s7, s8, a9, a10, a11, a12)) : wpX_grow post (wf, fl, a1, a2, a3, a4, a5, a6, a7, a8, a9, a10, a11, a12) := by
  unfold wpX_grow
  refine pc_fw (fun s7 s8 _ _ _ => ⟨1, pk_le 1000 0 (fun z => absurd z (by omega)) (fun _ => br_t rfl (H s7 s8))⟩) (fun s7 s8 hF h8 => ?_)
  obtain ⟨m, m1, m2, m3, m4⟩ := hF.2.1 8 (by omega) (by omega) h8
  exact absurd (h6 m m1) m3
end
end
section
/-! ===== closeReach ===== -/
/-- which place leads to which, as loaded -/
def pc_E (p q : Nat) (cb wb : Bool) (i j : Nat) : Bool := (cb && ((i == p && j == q) || (i == q && j == p))) || (wb && (i == 7 && j == p))
def pc_rm (E : Nat → Nat → Bool) (i : Nat) : Nat → Nat
  | 0 => 2 ^ i
  | t + 1 => if E i t = true then pc_rm E i t ||| 2 ^ t else pc_rm E i t
def pc_M (p q : Nat) (cb wb : Bool) (k j : Nat) : Nat :=
  if j = 7 ∧ p < k ∧ wb = true then pc_rm (pc_E p q cb wb) j 9 ||| pc_rm (pc_E p q cb wb) p 9 else pc_rm (pc_E p q cb wb) j 9
def pc_T (p q : Nat) (cb wb : Bool) : Nat := if wb = true then (if cb = true then 2 ^ p ||| 2 ^ q else 2 ^ p) else 0
theorem pc_tab : ∀ p, p < 7 → ∀ q, q < 7 → ∀ cb wb : Bool, ∀ k, k < 9 → ∀ j, j < 9 →
    pc_M p q cb wb k j < 512 ∧ pc_M p q cb wb (k + 1) k = pc_M p q cb wb k k ∧
    (if pc_M p q cb wb k j / 2 ^ k % 2 = 1 then pc_M p q cb wb k j ||| pc_M p q cb wb k k else pc_M p q cb wb k j) = pc_M p q cb wb (k + 1) j := by decide +kernel
theorem pc_tabT : ∀ p, p < 7 → ∀ q, q < 7 → ∀ cb wb : Bool, pc_M p q cb wb 9 7 < 512 ∧ pc_M p q cb wb 9 7 % 128 = pc_T p q cb wb := by decide +kernel
theorem pc_M0 (p q : Nat) (cb wb : Bool) (j : Nat) : pc_M p q cb wb 0 j = pc_rm (pc_E p q cb wb) j 9 := by
  unfold pc_M
  rw [if_neg (by omega)]
theorem pc_EL {p q c w i j : Nat} (hp : p < 7) (hq : q < 7) : pc_E p q (decide (0 < c)) (decide (0 < w)) i j = true ↔ 0 < pc_L p q c w 7 0 i j := by
  unfold pc_E pc_L pc_cap pc_pl
  simp only [Bool.or_eq_true, Bool.and_eq_true, decide_eq_true_eq, beq_iff_eq]
  split
  · split <;> omega
  · split
    · split <;> omega
    · omega
theorem pc_L_le {p q c w r t i j : Nat} (hc : c ≤ 20) (hw : w ≤ 140) : pc_L p q c w r t i j ≤ 140 := by
  have h1 := pc_cap_le (p := p) (q := q) (c := c) (i := i) (j := j)
  have h2 := pc_pl_le (p := p) (w := w) (i := j)
  unfold pc_L
  split
  · omega
  · split <;> omega
def pc_H (E : Nat → Nat → Bool) (a6 : Nat → Int32) : Prop := ∀ i j, i < 9 → j < 9 → (E i j = true → ¬ a6 (i * 9 + j) ≤ 0) ∧ (¬ E i j = true → a6 (i * 9 + j) ≤ 0)
theorem pc_HL {p q c w : Nat} {a6 : Nat → Int32} (hp : p < 7) (hq : q < 7) (hc : c ≤ 20) (hw : w ≤ 140) (h : pc_LL p q c w 7 0 a6) : pc_H (pc_E p q (decide (0 < c)) (decide (0 < w))) a6 := by
  intro i j hi hj
  have hl := pc_L_le (p := p) (q := q) (r := 7) (t := 0) (i := i) (j := j) hc hw
  rw [h i j hi hj]
  refine ⟨fun z => nI_nle ((pc_EL hp hq).mp z) (by omega), fun z => ?_⟩
  have h0 : pc_L p q c w 7 0 i j = 0 := by
    rcases Nat.eq_zero_or_pos (pc_L p q c w 7 0 i j) with y | y
    · exact y
    · exact absurd ((pc_EL hp hq).mpr y) z
  rw [h0]
  decide
section
variable {wf fl : Int32} {a1 a2 a3 a4 a5 a6 a7 a8 a9 a10 a11 a12 : Nat → Int32}
theorem pc_19 {post : St2 → Prop} {J : Int32 → (Nat → Int32) → (Nat → Int32) → (Nat → Int32) → (Nat → Int32) → (Nat → Int32) → (Nat → Int32) → (Nat → Int32) → (Nat → Int32) → (Nat → Int32) → (Nat → Int32) → (Nat → Int32) → (Nat → Int32) → Prop} {E : Nat → Nat → Bool} {i : Nat} (hi : i < 9) (h6 : pc_H E a6) (h9 : ∀ j, j < i → a9 j = nI (pc_rm E j 9)) (h9' : a9 i = nI (pc_rm E i 0))
    (H : ∀ s, (∀ j, j < i + 1 → s j = nI (pc_rm E j 9)) → J (nI (i + 1)) a1 a2 a3 a4 a5 a6 a7 a8 s a10 a11 a12) : ∃ n, wX_closeReach_19 post J (nI i) wf fl n 0 a1 a2 a3 a4 a5 a6 a7 a8 a9 a10 a11 a12 := by
  refine pk_loop (fun n t s => wX_closeReach_19 post J (nI i) wf fl n (nI t) a1 a2 a3 a4 a5 a6 a7 a8 s a10 a11 a12) (fun t s => (∀ j, j < i → s j = nI (pc_rm E j 9)) ∧ s i = nI (pc_rm E i t)) 9 0 a9 (by omega) ⟨h9, h9'⟩ ?_ ?_
  · exact fun n s h => pk_le 9 9 (fun _ => nm_r (nI_1 i) (H s (lt_s h.1 h.2))) (fun z => absurd z (by omega))
  · intro n t s ht h hw
    refine pk_le 9 t (fun z => absurd z (by omega)) (fun _ => ⟨pk_in (i * 9 + t) 81 (by omega) (pc_ix9 i t), ?_⟩)
    rw [pc_ix9, pc_cl (n := i * 9 + t) (by omega)]
    by_cases g : E i t = true
    · refine br_f ((h6 i t hi ht).1 g) ?_
      rw [pc_cl (n := i) (by omega), h.2, pc_sh1 t ht, pc_or]
      refine ⟨pk_in i 9 hi, pk_in i 9 hi, nm_e (nm_r (nI_1 t) (hw _ ⟨fun j hj => ?_, ?_⟩))⟩
      · rw [pk_un (show j ≠ i by omega)]
        exact h.1 j hj
      · rw [pk_us]
        show _ = nI (if E i t = true then pc_rm E i t ||| 2 ^ t else pc_rm E i t)
        rw [if_pos g]
    · refine br_t ((h6 i t hi ht).2 g) (nm_r (nI_1 t) (hw s ⟨h.1, ?_⟩))
      show _ = nI (if E i t = true then pc_rm E i t ||| 2 ^ t else pc_rm E i t)
      rw [if_neg g]
      exact h.2
theorem pc_73 {post : St2 → Prop} {J : Int32 → (Nat → Int32) → (Nat → Int32) → (Nat → Int32) → (Nat → Int32) → (Nat → Int32) → (Nat → Int32) → (Nat → Int32) → (Nat → Int32) → (Nat → Int32) → (Nat → Int32) → (Nat → Int32) → (Nat → Int32) → Prop} {p q k : Nat} {cb wb : Bool} (hp : p < 7) (hq : q < 7) (hk : k < 9) (h9 : ∀ l, l < 9 → a9 l = nI (pc_M p q cb wb k l))
    (H : ∀ s, (∀ l, l < 9 → s l = nI (pc_M p q cb wb (k + 1) l)) → J (nI (k + 1)) a1 a2 a3 a4 a5 a6 a7 a8 s a10 a11 a12) : ∃ n, wX_closeReach_73 post J (nI k) wf fl n 0 a1 a2 a3 a4 a5 a6 a7 a8 a9 a10 a11 a12 := by
  refine pk_loop (fun n j s => wX_closeReach_73 post J (nI k) wf fl n (nI j) a1 a2 a3 a4 a5 a6 a7 a8 s a10 a11 a12) (fun j s => ∀ l, l < 9 → s l = nI (pc_M p q cb wb (if l < j then k + 1 else k) l)) 9 0 a9 (by omega) (fun l hl => by
    rw [if_neg (by omega)]
    exact h9 l hl) ?_ ?_
  · exact fun n s h => pk_le 9 9 (fun _ => nm_r (nI_1 k) (H s (fun l hl => by
      have := h l hl
      rw [if_pos hl] at this
      exact this))) (fun z => absurd z (by omega))
  · intro n j s hj h hw
    have hsj : s j = nI (pc_M p q cb wb k j) := by
      have := h j hj
      rw [if_neg (by omega)] at this
      exact this
    obtain ⟨t1, t2, t3⟩ := pc_tab p hp q hq cb wb k hk j hj
    have hsk : s k = nI (pc_M p q cb wb k k) := by
      have := h k hk
      by_cases e : k < j
      · rw [if_pos e, t2] at this
        exact this
      · rw [if_neg e] at this
        exact this
    refine pk_le 9 j (fun z => absurd z (by omega)) (fun _ => ⟨pk_in j 9 hj, ?_⟩)
    rw [pc_cl (n := j) (by omega), pc_cl (n := k) (by omega), hsk, hsj, pc_or]
    refine pc_inN (by omega) (by omega) (fun g => br_f (by decide) ⟨pk_in j 9 hj, pk_in k 9 hk, pk_in j 9 hj, nm_e (nm_r (nI_1 j) (hw _ (fun l hl => ?_)))⟩) (fun g => br_t rfl (nm_r (nI_1 j) (hw _ (fun l hl => ?_))))
    · rw [if_pos g] at t3
      by_cases e : l = j
      · rw [e, pk_us, if_pos (by omega), t3]
      · rw [pk_un e, h l hl]
        by_cases e2 : l < j
        · rw [if_pos e2, if_pos (by omega)]
        · rw [if_neg e2, if_neg (by omega)]
    · rw [if_neg g] at t3
      by_cases e : l = j
      · rw [e, if_pos (by omega), hsj, t3]
      · rw [h l hl]
        by_cases e2 : l < j
        · rw [if_pos e2, if_pos (by omega)]
        · rw [if_neg e2, if_neg (by omega)]
theorem pc_65 {post : St2 → Prop} {p q : Nat} {cb wb : Bool} (hp : p < 7) (hq : q < 7) (h9 : ∀ l, l < 9 → a9 l = nI (pc_rm (pc_E p q cb wb) l 9))
    (H : ∀ s, s 7 &&& 127 = nI (pc_T p q cb wb) → post (wf, fl, a1, a2, a3, a4, a5, a6, a7, a8, s, a10, a11, a12)) : ∃ n, wX_closeReach_65 post wf fl n 0 a1 a2 a3 a4 a5 a6 a7 a8 a9 a10 a11 a12 :=
  pk_loop (fun n k s => wX_closeReach_65 post wf fl n (nI k) a1 a2 a3 a4 a5 a6 a7 a8 s a10 a11 a12) (fun k s => ∀ l, l < 9 → s l = nI (pc_M p q cb wb k l)) 9 0 a9 (by omega) (fun l hl => by rw [pc_M0]; exact h9 l hl)
    (fun n s h => pk_le 9 9 (fun _ => H s (by
      obtain ⟨t1, t2⟩ := pc_tabT p hp q hq cb wb
      rw [h 7 (by omega), pc_m127 (by omega), t2])) (fun z => absurd z (by omega)))
    (fun n k s hk h hw => pk_le 9 k (fun z => absurd z (by omega)) (fun _ => pc_73 hp hq hk h hw))
theorem pc_close {post : St2 → Prop} {p q : Nat} {cb wb : Bool} (hp : p < 7) (hq : q < 7) (h6 : pc_H (pc_E p q cb wb) a6)
    (H : ∀ s, s 7 &&& 127 = nI (pc_T p q cb wb) → post (wf, fl, a1, a2, a3, a4, a5, a6, a7, a8, s, a10, a11, a12)) : wpX_closeReach post (wf, fl, a1, a2, a3, a4, a5, a6, a7, a8, a9, a10, a11, a12) := by
  have main : ∃ n, wX_closeReach_2 post wf fl n 0 a1 a2 a3 a4 a5 a6 a7 a8 a9 a10 a11 a12 :=
    pk_loop (fun n i s => wX_closeReach_2 post wf fl n (nI i) a1 a2 a3 a4 a5 a6 a7 a8 s a10 a11 a12) (fun i s => ∀ j, j < i → s j = nI (pc_rm (pc_E p q cb wb) j 9)) 9 0 a9 (by omega) (fun j hj => absurd hj (by omega))
      (fun n s h => pk_le 9 9 (fun _ => pc_65 hp hq h H) (fun z => absurd z (by omega)))
      (fun n i s hi h hw => pk_le 9 i (fun z => absurd z (by omega)) (fun _ => ⟨pk_in i 9 hi, nm_r (e' := upd s i (nI (2 ^ i))) (by rw [pc_cl (n := i) (by omega), pc_sh1 i hi]) (pc_19 hi h6 (fun j hj => by
        rw [pk_un (show j ≠ i by omega)]
        exact h j hj) pk_us hw)⟩))
  exact main
end
end
section
/-! ===== work, least, leastApart, spare, always ===== -/
theorem pc_Lc {p q c w i j : Nat} (hi : i < 7) (hj : j < 7) : pc_L p q c w 7 0 i j = pc_cap p q c i j := by
  unfold pc_L
  rw [if_pos (by omega)]
theorem pc_L7 {p q c w j : Nat} (hj : j < 7) : pc_L p q c w 7 0 7 j = pc_pl p w j := by
  unfold pc_L
  rw [if_neg (by omega), if_pos (by omega)]
theorem pc_L8 {p q c w i : Nat} : pc_L p q c w 7 0 i 8 = 0 := by
  unfold pc_L
  rw [if_neg (by omega), if_neg (by omega)]
theorem pc_LG {p q c w s t : Nat} {a : Nat → Int32} (hp : p < 7) (hq : q < 7) (hpq : p ≠ q) (hst : (s = p ∧ t = q) ∨ (s = q ∧ t = p)) (h : pc_LL p q c w 7 0 a) :
    pc_G s t (pc_pl p w s + 100000) (pc_pl p w t) c 100000 (upd (upd a (63 + s) (a (63 + s) + 100000)) (t * 9 + 8) (upd a (63 + s) (a (63 + s) + 100000) (t * 9 + 8) + 100000)) := by
  have hs : s < 7 := by omega
  have ht : t < 7 := by omega
  have hne : s ≠ t := by omega
  have e7 : ∀ j, j < 7 → a (63 + j) = nI (pc_pl p w j) := fun j hj => by
    have := h 7 j (by omega) (by omega)
    rw [pc_L7 hj] at this
    exact this
  have e8 : ∀ i, i < 9 → a (i * 9 + 8) = 0 := fun i hi => by
    have := h i 8 hi (by omega)
    rw [pc_L8] at this
    exact this
  have ec : ∀ i j, i < 7 → j < 7 → a (i * 9 + j) = nI (pc_cap p q c i j) := fun i j hi hj => by
    have := h i j (by omega) (by omega)
    rw [pc_Lc hi hj] at this
    exact this
  refine ⟨?_, ?_, ?_, ?_, ?_, ?_⟩
  · rw [pk_un (by omega), pk_us, e7 s hs, show (100000 : Int32) = nI 100000 from rfl, nI_add]
  · rw [pk_un (by omega), pk_un (by omega), e7 t ht]
  · rw [pk_un (by omega), pk_un (by omega), ec s t hs ht]
    unfold pc_cap
    rw [if_pos hst]
  · rw [pk_us, pk_un (by omega), e8 t (by omega)]
    rfl
  · intro i hi it
    rw [pk_un (by omega), pk_un (by omega), e8 i (by omega)]
    decide
  · intro i hi i7 is i8
    rw [pk_un (by omega), pk_un (by omega), ec i t (by omega) ht]
    unfold pc_cap
    rw [if_neg (by omega)]
    decide
theorem pc_badC {post : Int32 → Prop} {x : Int32} (h0 : ∀ p, p < 7 → x = nI p → post 0) (h1 : (x < 0 ∨ nI 7 ≤ x) → post 1) : wpX_bad post () x := by
  rcases pk_ix x (n := 7) (by decide) with g | g | ⟨p, hp, e⟩
  · exact pc_bad1 (Or.inl g) (h1 (Or.inl g))
  · exact pc_bad1 (Or.inr g) (h1 (Or.inr g))
  · have h := h0 p hp e
    rw [e]
    exact pc_bad0 hp h
theorem pc_nb {p : Nat} (hp : p < 7) (h : nI p < 0 ∨ nI 7 ≤ nI p) : False := by
  rcases h with g | g
  · exact nI_pos (by omega) g
  · exact nI_ge hp (by decide) g
/-- u and v are no pair -/
def pc_np (x0 x1 : Int32) : Prop := (x0 < 0 ∨ nI 7 ≤ x0) ∨ (x1 < 0 ∨ nI 7 ≤ x1) ∨ x0 = x1
theorem pc_npE {x0 x1 : Int32} {p q : Nat} (hp : p < 7) (hq : q < 7) (e0 : x0 = nI p) (e1 : x1 = nI q) (h : pc_np x0 x1) : x0 = x1 := by
  rcases h with g | g | g
  · rw [e0] at g
    exact (pc_nb hp g).elim
  · rw [e1] at g
    exact (pc_nb hq g).elim
  · exact g
theorem pc_mX {X : Nat} (hX : X ≤ 50) : ¬ (-1 : Int32) = nI X := fun z => nI_pos (n := X) (by omega) (by rw [← z]; decide)
section
variable {wf fl : Int32} {a1 a2 a3 a4 a5 a6 a7 a8 a9 a10 a11 a12 : Nat → Int32}
theorem pc_workS {post : St2 → Prop} {x : Int32} (h : wf = x) (H : post (wf, fl, a1, a2, a3, a4, a5, a6, a7, a8, a9, a10, a11, a12)) : wpX_work post (wf, fl, a1, a2, a3, a4, a5, a6, a7, a8, a9, a10, a11, a12) x := br_t h H
theorem pc_work {post : St2 → Prop} {p q c w : Nat} {x : Int32} (k : pc_K p q c w x a1 a2 a3 a4 a5) (hne : ¬ wf = x)
    (H : ∀ s6 s7 s8 s9 : Nat → Int32, s9 7 &&& 127 = nI (pc_T p q (decide (0 < c)) (decide (0 < w))) → post (x, 0, a1, a2, a3, a4, a5, s6, s7, s8, s9, a10, a11, a12)) : wpX_work post (wf, fl, a1, a2, a3, a4, a5, a6, a7, a8, a9, a10, a11, a12) x := by
  have k' := k
  obtain ⟨hp, hq, hpq, hc, hw, kC, kS, k4, k5⟩ := k'
  refine br_f hne (pc_load k (fun s6 h6 => pc_grow0 (fun i hi => ?_) (fun s7 s8 => pc_close hp hq (pc_HL hp hq hc hw h6) (fun s9 h9 => H s6 s7 s8 s9 h9))))
  have := h6 i 8 (by omega) (by omega)
  rw [pc_L8] at this
  rw [this]
  decide
theorem pc_leastG {post : Int32 → St2 → Prop} {p q c w X : Nat} (k : pc_K p q c w (nI X) a1 a2 a3 a4 a5) (hX : X ≤ 50) (hne : ¬ wf = nI X)
    (H : ∀ s6 s7 s8 s9 : Nat → Int32, s9 7 &&& 127 = nI (pc_T p q (decide (0 < c)) (decide (0 < w))) → post 0 (nI X, 0, a1, a2, a3, a4, a5, s6, s7, s8, s9, a10, a11, a12)) : wpX_least post (wf, fl, a1, a2, a3, a4, a5, a6, a7, a8, a9, a10, a11, a12) (nI X) := by
  unfold wpX_least
  exact pc_badX0 hX (br_t rfl (pc_work k hne H))
theorem pc_leastB {post : Int32 → St2 → Prop} {x : Int32} (hx : x < 0 ∨ ¬ x ≤ 50) (H : post (-2) (wf, fl, a1, a2, a3, a4, a5, a6, a7, a8, a9, a10, a11, a12)) : wpX_least post (wf, fl, a1, a2, a3, a4, a5, a6, a7, a8, a9, a10, a11, a12) x := by
  unfold wpX_least
  exact pc_badX1 hx (br_f (by decide) H)
theorem pc_apart {post : Int32 → St2 → Prop} {p q c w s t : Nat} {x : Int32} (k : pc_K p q c w x a1 a2 a3 a4 a5) (hpq : p ≠ q) (hst : (s = p ∧ t = q) ∨ (s = q ∧ t = p))
    (H : ∀ s6 s7 s8, post (nI (pc_pl p w t + c)) ((-1), nI (pc_pl p w t + c), a1, a2, a3, a4, a5, s6, s7, s8, a9, a10, a11, a12)) : wpX_leastApart post (wf, fl, a1, a2, a3, a4, a5, a6, a7, a8, a9, a10, a11, a12) (nI s) (nI t) x := by
  have k' := k
  obtain ⟨hp, hq, _, hc, hw, kC, kS, k4, k5⟩ := k'
  have h1 := pc_pl_le (p := p) (w := w) (i := s)
  have h2 := pc_pl_le (p := p) (w := w) (i := t)
  unfold wpX_leastApart
  refine pc_load k (fun s6 h6 => ?_)
  dsimp only
  rw [pc_i63, pc_ix8, pc_cl (n := 63 + s) (by omega), pc_cl (n := t * 9 + 8) (by omega)]
  exact ⟨pk_in (63 + s) 81 (by omega), pk_in (63 + s) 81 (by omega), nm_e ⟨pk_in (t * 9 + 8) 81 (by omega), pk_in (t * 9 + 8) 81 (by omega), nm_e (pc_grow (p := s) (q := t) (by omega) (by omega) (by omega) (by omega) (by omega) (by omega) (by omega) (by omega) (by omega) (pc_LG hp hq hpq hst h6) H)⟩⟩
theorem pc_68 {post : Int32 → St2 → Prop} {p q c w : Nat} {x z : Int32} (k : pc_K p q c w x a1 a2 a3 a4 a5) (hz : z = nI c) (H : post (nI c) (wf, 0, a1, a2, a3, a4, a5, a6, a7, a8, a9, a10, a11, a12)) : wX_spare_68 post (nI p) (nI q) z wf 0 a1 a2 a3 a4 a5 a6 a7 a8 a9 a10 a11 a12 := by
  obtain ⟨hp, hq, _, hc, hw, kC, kS, k4, k5⟩ := k
  have ec : a1 (p * 7 + q) = nI c := by
    rw [kC p q hp hq]
    unfold pc_cap
    rw [if_pos (Or.inl ⟨rfl, rfl⟩)]
  unfold wX_spare_68
  rw [hz, pc_ix7, pc_cl (n := p * 7 + q) (by omega), ec]
  exact nm_r (show nI c - 0 = nI c by
    have := pk_sub (a := c) (b := 0) (by omega)
    exact this) ⟨pk_in (p * 7 + q) 49 (by omega), nm_e (br_t (nI_le (Nat.le_refl c) (by omega)) H)⟩
theorem pc_spareG {post : Int32 → St2 → Prop} {p q c w X : Nat} (k : pc_K p q c w (nI X) a1 a2 a3 a4 a5) (hpq : p ≠ q) (hX : X ≤ 50)
    (H : ∀ s6 s7 s8 s9 : Nat → Int32, s9 7 &&& 127 = nI (pc_T p q (decide (0 < c)) (decide (0 < w))) → post (nI c) (nI X, 0, a1, a2, a3, a4, a5, s6, s7, s8, s9, a10, a11, a12)) : wpX_spare post (wf, fl, a1, a2, a3, a4, a5, a6, a7, a8, a9, a10, a11, a12) (nI p) (nI q) (nI X) := by
  have k' := k
  obtain ⟨hp, hq, _, hc, hw, kC, kS, k4, k5⟩ := k'
  have e1 : pc_pl p w q = 0 := by
    unfold pc_pl
    rw [if_neg (by omega)]
  have e2 : pc_pl p w p = w := by
    unfold pc_pl
    rw [if_pos rfl]
  unfold wpX_spare
  refine pc_bad0 hp (br_t rfl (pc_bad0 hq (br_t rfl (br_f (fun z => hpq (pc_inj (by omega) (by omega) z)) (pc_badX0 hX (br_t rfl (pc_apart k hpq (Or.inl ⟨rfl, rfl⟩) (fun s6 s7 s8 => pc_apart k hpq (Or.inr ⟨rfl, rfl⟩) (fun t6 t7 t8 => pc_work k (pc_mX hX) (fun r6 r7 r8 r9 h9 => ?_))))))))))
  refine pk_le (pc_pl p w p + c) (pc_pl p w q + c) (fun z => pc_68 k ?_ (H r6 r7 r8 r9 h9)) (fun z => pc_68 k ?_ (H r6 r7 r8 r9 h9))
  · congr 1
    omega
  · congr 1
    omega
theorem pc_spareN {post : Int32 → St2 → Prop} {x0 x1 x : Int32} (h : pc_np x0 x1) (H : post (-1) (wf, fl, a1, a2, a3, a4, a5, a6, a7, a8, a9, a10, a11, a12)) : wpX_spare post (wf, fl, a1, a2, a3, a4, a5, a6, a7, a8, a9, a10, a11, a12) x0 x1 x := by
  unfold wpX_spare
  exact pc_badC (fun p hp e => br_t rfl (pc_badC (fun q hq e' => br_t rfl (br_t (pc_npE hp hq e e' h) H)) (fun _ => br_f (by decide) H))) (fun _ => br_f (by decide) H)
theorem pc_spareB {post : Int32 → St2 → Prop} {p q : Nat} {x : Int32} (hp : p < 7) (hq : q < 7) (hpq : p ≠ q) (hx : x < 0 ∨ ¬ x ≤ 50) (H : post (-2) (wf, fl, a1, a2, a3, a4, a5, a6, a7, a8, a9, a10, a11, a12)) : wpX_spare post (wf, fl, a1, a2, a3, a4, a5, a6, a7, a8, a9, a10, a11, a12) (nI p) (nI q) x := by
  unfold wpX_spare
  exact pc_bad0 hp (br_t rfl (pc_bad0 hq (br_t rfl (br_f (fun z => hpq (pc_inj (by omega) (by omega) z)) (pc_badX1 hx (br_f (by decide) H))))))
theorem pc_alwaysG {post : Int32 → St2 → Prop} {X : Nat} (hX : X ≤ 50) (H : post (a9 7 &&& 127) (nI X, fl, a1, a2, a3, a4, a5, a6, a7, a8, a9, a10, a11, a12)) : wpX_always post (nI X, fl, a1, a2, a3, a4, a5, a6, a7, a8, a9, a10, a11, a12) (nI X) := by
  unfold wpX_always
  exact pc_badX0 hX (br_t rfl (pc_workS rfl H))
theorem pc_alwaysB {post : Int32 → St2 → Prop} {x : Int32} (hx : x < 0 ∨ ¬ x ≤ 50) (H : post (-2) (wf, fl, a1, a2, a3, a4, a5, a6, a7, a8, a9, a10, a11, a12)) : wpX_always post (wf, fl, a1, a2, a3, a4, a5, a6, a7, a8, a9, a10, a11, a12) x := by
  unfold wpX_always
  exact pc_badX1 hx (br_f (by decide) H)
end
end
section
/-! ===== link, toSource ===== -/
theorem pc_x4 {x : Int32} (h1 : ¬ x < (-2)) (h2 : ¬ 2 < x) : ∃ b : Nat, b < 5 ∧ x = nI b - 2 := by
  have b1 := Int32.le_iff_toInt_le.mp (Int32.not_lt.mp h1)
  have b2 := Int32.le_iff_toInt_le.mp (Int32.not_lt.mp h2)
  have e1 : (-2 : Int32).toInt = -2 := by decide
  have e2 : (2 : Int32).toInt = 2 := by decide
  rw [e1] at b1
  rw [e2] at b2
  have h : x.toInt = -2 ∨ x.toInt = -1 ∨ x.toInt = 0 ∨ x.toInt = 1 ∨ x.toInt = 2 := by omega
  rcases h with h | h | h | h | h
  · exact ⟨0, by omega, Int32.toInt_inj.mp (by rw [h]; decide)⟩
  · exact ⟨1, by omega, Int32.toInt_inj.mp (by rw [h]; decide)⟩
  · exact ⟨2, by omega, Int32.toInt_inj.mp (by rw [h]; decide)⟩
  · exact ⟨3, by omega, Int32.toInt_inj.mp (by rw [h]; decide)⟩
  · exact ⟨4, by omega, Int32.toInt_inj.mp (by rw [h]; decide)⟩
theorem pc_140 : ∀ a, a < 41 → ∀ b, b < 5 → ∀ X, X < 51 → nI a + (nI b - 2) * nI X ≤ 140 := by decide +kernel
theorem pc_bp1 {post : Int32 → Prop} {x y : Int32} (hb : x < 0 ∨ 40 < x ∨ y < (-2) ∨ 2 < y) (h : post 1) : wpX_badPull post () x y := by
  refine br_c (fun _ => h) (fun g1 => br_c (fun _ => h) (fun g2 => br_c (fun _ => h) (fun g3 => br_f (fun z => ?_) h)))
  rcases hb with g | g | g | g
  · exact g1 g
  · exact g2 g
  · exact g3 g
  · exact Int32.not_lt.mpr z g
theorem pc_bp0 {post : Int32 → Prop} {x y : Int32} (h1 : ¬ x < 0) (h2 : ¬ 40 < x) (h3 : ¬ y < (-2)) (h4 : ¬ 2 < y) (h : post 0) : wpX_badPull post () x y :=
  br_f h1 (br_f h2 (br_f h3 (br_t (Int32.not_lt.mp h4) h)))
section
variable {wf fl : Int32} {a1 a2 a3 a4 a5 a6 a7 a8 a9 a10 a11 a12 : Nat → Int32}
theorem pc_linkN {post : Int32 → St2 → Prop} {x0 x1 x2 : Int32} (h : pc_np x0 x1) (H : post (-1) (wf, fl, a1, a2, a3, a4, a5, a6, a7, a8, a9, a10, a11, a12)) : wpX_link post (wf, fl, a1, a2, a3, a4, a5, a6, a7, a8, a9, a10, a11, a12) x0 x1 x2 := by
  unfold wpX_link
  exact pc_badC (fun p hp e => br_t rfl (pc_badC (fun q hq e' => br_t rfl (br_t (pc_npE hp hq e e' h) H)) (fun _ => br_f (by decide) H))) (fun _ => br_f (by decide) H)
theorem pc_linkB {post : Int32 → St2 → Prop} {p q : Nat} {x2 : Int32} (hp : p < 7) (hq : q < 7) (hpq : p ≠ q) (hx : x2 < 0 ∨ 20 < x2) (H : post (-2) (wf, fl, a1, a2, a3, a4, a5, a6, a7, a8, a9, a10, a11, a12)) : wpX_link post (wf, fl, a1, a2, a3, a4, a5, a6, a7, a8, a9, a10, a11, a12) (nI p) (nI q) x2 := by
  unfold wpX_link
  refine pc_bad0 hp (br_t rfl (pc_bad0 hq (br_t rfl (br_f (fun z => hpq (pc_inj (by omega) (by omega) z)) (br_c (fun _ => H) (fun g => br_f (fun z => ?_) H))))))
  rcases hx with y | y
  · exact g y
  · exact Int32.not_lt.mpr z y
theorem pc_linkS {post : Int32 → St2 → Prop} {p q : Nat} {x2 : Int32} (hp : p < 7) (hq : q < 7) (hpq : p ≠ q) (h1 : ¬ x2 < 0) (h2 : ¬ 20 < x2) (H : post (a1 (p * 7 + q)) ((-1), fl, upd (upd a1 (p * 7 + q) x2) (q * 7 + p) x2, a2, a3, a4, a5, a6, a7, a8, a9, a10, a11, a12)) : wpX_link post (wf, fl, a1, a2, a3, a4, a5, a6, a7, a8, a9, a10, a11, a12) (nI p) (nI q) x2 := by
  unfold wpX_link
  dsimp only
  rw [pc_ix7 p q, pc_ix7 q p, pc_cl (n := p * 7 + q) (by omega), pc_cl (n := q * 7 + p) (by omega)]
  exact pc_bad0 hp (br_t rfl (pc_bad0 hq (br_t rfl (br_f (fun z => hpq (pc_inj (by omega) (by omega) z)) (br_f h1 (br_t (Int32.not_lt.mp h2) ⟨pk_in (p * 7 + q) 49 (by omega), nm_e ⟨pk_in (p * 7 + q) 49 (by omega), nm_e ⟨pk_in (q * 7 + p) 49 (by omega), nm_e H⟩⟩⟩))))))
theorem pc_toN {post : Int32 → St2 → Prop} {x0 x3 x4 : Int32} (h : x0 < 0 ∨ nI 7 ≤ x0) (H : post (-1) (wf, fl, a1, a2, a3, a4, a5, a6, a7, a8, a9, a10, a11, a12)) : wpX_toSource post (wf, fl, a1, a2, a3, a4, a5, a6, a7, a8, a9, a10, a11, a12) x0 x3 x4 := by
  unfold wpX_toSource
  exact pc_bad1 h (br_f (by decide) H)
theorem pc_toB {post : Int32 → St2 → Prop} {p : Nat} {x3 x4 : Int32} (hp : p < 7) (hb : x3 < 0 ∨ 40 < x3 ∨ x4 < (-2) ∨ 2 < x4) (H : post (-2) (wf, fl, a1, a2, a3, a4, a5, a6, a7, a8, a9, a10, a11, a12)) : wpX_toSource post (wf, fl, a1, a2, a3, a4, a5, a6, a7, a8, a9, a10, a11, a12) (nI p) x3 x4 := by
  unfold wpX_toSource
  exact pc_bad0 hp (br_t rfl (pc_bp1 hb (br_f (by decide) H)))
theorem pc_toS {post : Int32 → St2 → Prop} {p : Nat} {x3 x4 : Int32} (hp : p < 7) (h1 : ¬ x3 < 0) (h2 : ¬ 40 < x3) (h3 : ¬ x4 < (-2)) (h4 : ¬ 2 < x4) (H : post 0 ((-1), fl, a1, upd a2 p x3, upd a3 p x4, a4, a5, a6, a7, a8, a9, a10, a11, a12)) : wpX_toSource post (wf, fl, a1, a2, a3, a4, a5, a6, a7, a8, a9, a10, a11, a12) (nI p) x3 x4 := by
  unfold wpX_toSource
  dsimp only
  rw [pc_cl (n := p) (by omega)]
  exact pc_bad0 hp (br_t rfl (pc_bp0 h1 h2 h3 h4 (br_t rfl ⟨pk_in p 7 hp, nm_e ⟨pk_in p 7 hp, nm_e H⟩⟩)))
end
/-! ===== the law, from its end ===== -/
/-- pair (x7) and set (x8), and what they say of the picture -/
def pc_R (x0 x1 x2 x7 x8 : Int32) (p q c : Nat) : Prop :=
  (pc_np x0 x1 ∧ x7 = 0 ∧ x8 = 0 ∧ c = 0) ∨ (x0 = nI p ∧ x1 = nI q ∧ p ≠ q ∧ ¬ x7 = 0 ∧ ((x8 = 0 ∧ c = 0) ∨ (¬ x8 = 0 ∧ x2 = nI c)))
def pc_W (p q c : Nat) (x0 x1 x2 x7 x8 : Int32) (a1 a4 a5 : Nat → Int32) : Prop :=
  p < 7 ∧ q < 7 ∧ (p ≠ q ∨ c = 0) ∧ c ≤ 20 ∧ pc_C p q c a1 ∧ pc_O a4 ∧ pc_O a5 ∧ pc_R x0 x1 x2 x7 x8 p q c
def pc_U (a : Nat → Int32) (p : Nat) (x : Int32) : Prop := ∀ i, i < 7 → a i = if i = p then x else 0
/-- pull (x9) -/
def pc_Q (p : Nat) (x0 x3 x4 x9 : Int32) (a2 a3 : Nat → Int32) : Prop :=
  (x9 = 0 ∧ pc_O a2 ∧ pc_O a3) ∨ (¬ x9 = 0 ∧ x0 = nI p ∧ pc_U a2 p x3 ∧ pc_U a3 p x4 ∧ (∃ a : Nat, a < 41 ∧ x3 = nI a) ∧ (∃ b : Nat, b < 5 ∧ x4 = nI b - 2))
theorem pc_00 (x : Int32) : (0 : Int32) + 0 * x = 0 := by
  rw [Int32.zero_mul]
  rfl
theorem pc_pl0 (p i : Nat) : pc_pl p 0 i = 0 := by
  unfold pc_pl
  split <;> rfl
theorem pc_S0 {p : Nat} {x : Int32} {a2 a3 : Nat → Int32} (h2 : pc_O a2) (h3 : pc_O a3) : pc_S p 0 x a2 a3 := by
  intro i hi
  rw [h2 i hi, h3 i hi, pc_00, pc_pl0]
  exact Or.inl ⟨by decide, rfl⟩
theorem pc_SU {p w : Nat} {x x3 x4 : Int32} {a2 a3 : Nat → Int32} (h2 : pc_U a2 p x3) (h3 : pc_U a3 p x4) (hw : w < 2 ^ 31) (h : (x3 + x4 * x ≤ 0 ∧ w = 0) ∨ x3 + x4 * x = nI w) : pc_S p w x a2 a3 := by
  intro i hi
  rw [h2 i hi, h3 i hi]
  unfold pc_pl
  by_cases e : i = p
  · rw [if_pos e, if_pos e, if_pos e]
    rcases h with ⟨g, g'⟩ | g
    · exact Or.inl ⟨g, by rw [g']; rfl⟩
    · rw [g]
      by_cases w0 : w = 0
      · rw [w0]
        exact Or.inl ⟨by decide, rfl⟩
      · exact Or.inr ⟨nI_nle (by omega) hw, rfl⟩
  · rw [if_neg e, if_neg e, if_neg e, pc_00]
    exact Or.inl ⟨by decide, rfl⟩
section
variable {wf fl : Int32} {a1 a2 a3 a4 a5 a6 a7 a8 a9 a10 a11 a12 : Nat → Int32}
variable {post : Int32 → St0 → Prop} {mc ms kc ks : Nat} {x0 x1 x2 x3 x4 x5 x7 x8 x9 x10 x11 z0 z1 : Int32} {p q c w X : Nat}
theorem pc_356 (h : post 1 ()) (e : z1 = z0) : wL_lawOf_356 post mc ms z0 z1 kc ks := br_t e h
theorem pc_in290 {r : Int32} (h : post 1 ()) (hp : p < 7) (hq : q < 7) (hc : c ≤ 20) (hw : w ≤ 140) (h10 : ¬ x10 = 0) (h11 : x11 = nI w) (h0 : w ≠ 0 → x0 = nI p) (h8 : x8 = 0 → c = 0) (h8' : ¬ x8 = 0 → x2 = nI c ∧ x1 = nI q)
    (hr : r = nI (pc_T p q (decide (0 < c)) (decide (0 < w)))) :
    ((x10 = 0 → wL_lawOf_356 post mc ms (-2) r kc ks) ∧ (¬ x10 = 0 → ((x11 = 0 → wL_lawOf_356 post mc ms 0 r kc ks) ∧ (¬ x11 = 0 → ((x8 = 0 → wL_lawOf_353 post mc ms x0 r kc ks) ∧ (¬ x8 = 0 → ((x2 ≤ 0 → wL_lawOf_353 post mc ms x0 r kc ks) ∧ (¬ x2 ≤ 0 → wL_lawOf_356 post mc ms (((1 : Int32) <<< (x0 &&& 31)) ||| ((1 : Int32) <<< (x1 &&& 31))) r kc ks))))))))  := by
  have n353 : c = 0 → w ≠ 0 → wL_lawOf_353 post mc ms x0 r kc ks := fun c0 w0 => by
    unfold wL_lawOf_353
    refine pc_356 h ?_
    rw [hr, h0 w0, pc_sh1 p (by omega), c0]
    unfold pc_T
    rw [if_pos (decide_eq_true (by omega)), if_neg (by decide)]
  refine br_f h10 (br_c (fun z => pc_356 h ?_) (fun z => ?_))
  · rw [h11] at z
    have w0 : w = 0 := pc_inj (by omega) (by omega) z
    rw [hr, w0]
    rfl
  · have w0 : w ≠ 0 := fun y => z (by rw [h11, y]; rfl)
    refine br_c (fun z8 => n353 (h8 z8) w0) (fun z8 => ?_)
    obtain ⟨e2, e1⟩ := h8' z8
    refine br_c (fun z2 => ?_) (fun z2 => ?_)
    · rw [e2] at z2
      exact n353 (pc_z0 (by omega) z2) w0
    · have c0 : 0 < c := by
        rcases Nat.eq_zero_or_pos c with y | y
        · exact absurd (by rw [e2, y]; decide) z2
        · exact y
      refine pc_356 h ?_
      rw [hr, h0 w0, e1, pc_sh1 p (by omega), pc_sh1 q (by omega), pc_or]
      unfold pc_T
      rw [if_pos (decide_eq_true (by omega)), if_pos (decide_eq_true c0)]
theorem pc_290G (h : post 1 ()) (hX : X ≤ 50) (k : pc_K p q c w (nI X) a1 a2 a3 a4 a5) (h9 : a9 7 &&& 127 = nI (pc_T p q (decide (0 < c)) (decide (0 < w)))) (h10 : ¬ x10 = 0) (h0 : w ≠ 0 → x0 = nI p) (hR : pc_R x0 x1 x2 x7 x8 p q c)
    (hz : (x7 = 0 → z0 = -1) ∧ (¬ x7 = 0 → z0 = nI c)) : wL_lawOf_290 post mc ms x0 x1 x2 (nI X) x8 x10 (nI w) z0 kc ks (nI X) fl a1 a2 a3 a4 a5 a6 a7 a8 a9 a10 a11 a12 := by
  have k' := k
  obtain ⟨hp, hq, _, hc, hw, kC, kS, k4, k5⟩ := k'
  unfold wL_lawOf_290
  rcases hR with ⟨g1, g2, g3, g4⟩ | ⟨g1, g2, g3, g4, g5⟩
  · exact pc_spareN g1 (br_t (hz.1 g2).symm (pc_alwaysG hX (pc_in290 h hp hq hc hw h10 rfl h0 (fun _ => g4) (fun y => absurd g3 y) h9)))
  · have e8 : x8 = 0 → c = 0 := fun y => by
      rcases g5 with t | t
      · exact t.2
      · exact absurd y t.1
    have e8' : ¬ x8 = 0 → x2 = nI c ∧ x1 = nI q := fun y => by
      rcases g5 with t | t
      · exact absurd t.1 y
      · exact ⟨t.2, g2⟩
    have e0 : z0 = nI c := hz.2 g4
    subst g1 g2
    exact pc_spareG k g3 hX (fun s6 s7 s8 s9 h9' => br_t e0.symm (pc_alwaysG hX (pc_in290 h hp hq hc hw h10 rfl h0 e8 e8' h9')))
theorem pc_290B (h : post 1 ()) (hp : p < 7) (hq : q < 7) (hx : x5 < 0 ∨ ¬ x5 ≤ 50) (hR : pc_R x0 x1 x2 x7 x8 p q c) (hz : (x7 = 0 → z0 = -1) ∧ (¬ x7 = 0 → z0 = -2)) : wL_lawOf_290 post mc ms x0 x1 x2 x5 x8 0 x11 z0 kc ks wf fl a1 a2 a3 a4 a5 a6 a7 a8 a9 a10 a11 a12 := by
  unfold wL_lawOf_290
  rcases hR with ⟨g1, g2, g3, g4⟩ | ⟨g1, g2, g3, g4, g5⟩
  · exact pc_spareN g1 (br_t (hz.1 g2).symm (pc_alwaysB hx (br_t rfl (pc_356 h rfl))))
  · have e0 : z0 = -2 := hz.2 g4
    subst g1 g2
    exact pc_spareB hp hq g3 hx (br_t e0.symm (pc_alwaysB hx (br_t rfl (pc_356 h rfl))))
theorem pc_256G (h : post 1 ()) (hX : X ≤ 50) (k : pc_K p q c w (nI X) a1 a2 a3 a4 a5) (h9 : a9 7 &&& 127 = nI (pc_T p q (decide (0 < c)) (decide (0 < w)))) (h10 : ¬ x10 = 0) (h0 : w ≠ 0 → x0 = nI p) (hR : pc_R x0 x1 x2 x7 x8 p q c)
    (hz : z1 = z0) : wL_lawOf_256 post mc ms x0 x1 x2 (nI X) x7 x8 x10 (nI w) z0 z1 kc ks (nI X) fl a1 a2 a3 a4 a5 a6 a7 a8 a9 a10 a11 a12 := by
  unfold wL_lawOf_256
  refine br_t hz (br_c (fun y => pc_290G h hX k h9 h10 h0 hR ⟨fun _ => rfl, fun t => absurd y t⟩) (fun y => br_f h10 (br_c (fun y8 => ?_) (fun y8 => ?_))))
  · refine pc_290G h hX k h9 h10 h0 hR ⟨fun t => absurd t y, fun _ => ?_⟩
    rcases hR with ⟨g1, g2, g3, g4⟩ | ⟨g1, g2, g3, g4, g5⟩
    · exact absurd g2 y
    · rcases g5 with t | t
      · rw [t.2]
        rfl
      · exact absurd y8 t.1
  · refine pc_290G h hX k h9 h10 h0 hR ⟨fun t => absurd t y, fun _ => ?_⟩
    rcases hR with ⟨g1, g2, g3, g4⟩ | ⟨g1, g2, g3, g4, g5⟩
    · exact absurd g2 y
    · rcases g5 with t | t
      · exact absurd t.1 y8
      · exact t.2
theorem pc_256B (h : post 1 ()) (hp : p < 7) (hq : q < 7) (hx : x5 < 0 ∨ ¬ x5 ≤ 50) (hR : pc_R x0 x1 x2 x7 x8 p q c) (hz : z1 = z0) : wL_lawOf_256 post mc ms x0 x1 x2 x5 x7 x8 0 x11 z0 z1 kc ks wf fl a1 a2 a3 a4 a5 a6 a7 a8 a9 a10 a11 a12 := by
  unfold wL_lawOf_256
  exact br_t hz (br_c (fun y => pc_290B h hp hq hx hR ⟨fun _ => rfl, fun t => absurd y t⟩) (fun y => br_t rfl (pc_290B h hp hq hx hR ⟨fun t => absurd t y, fun _ => rfl⟩)))
theorem pc_213G (h : post 1 ()) (hX : X ≤ 50) (k : pc_K p q c w (nI X) a1 a2 a3 a4 a5) (h10 : ¬ x10 = 0) (h0 : w ≠ 0 → x0 = nI p) (hR : pc_R x0 x1 x2 x7 x8 p q c) : wL_lawOf_213 post mc ms x0 x1 x2 (nI X) x7 x8 x10 (nI w) kc ks (-1) fl a1 a2 a3 a4 a5 a6 a7 a8 a9 a10 a11 a12 := by
  have k' := k
  obtain ⟨hp, hq, _, hc, hw, kC, kS, k4, k5⟩ := k'
  unfold wL_lawOf_213
  refine pc_costG hX hp kS (br_f h10 ?_)
  unfold wL_lawOf_235
  exact br_t rfl (pc_leastG k hX (pc_mX hX) (fun s6 s7 s8 s9 h9 => br_f h10 (pc_256G h hX k h9 h10 h0 hR rfl)))
theorem pc_213B (h : post 1 ()) (hp : p < 7) (hq : q < 7) (hx : x5 < 0 ∨ ¬ x5 ≤ 50) (hR : pc_R x0 x1 x2 x7 x8 p q c) : wL_lawOf_213 post mc ms x0 x1 x2 x5 x7 x8 0 z0 kc ks wf fl a1 a2 a3 a4 a5 a6 a7 a8 a9 a10 a11 a12 := by
  unfold wL_lawOf_213
  refine pc_costB hx (br_t rfl ?_)
  unfold wL_lawOf_235
  exact br_t rfl (pc_leastB hx (br_t rfl (pc_256B h hp hq hx hR rfl)))
theorem pc_158 (h : post 1 ()) (hW : pc_W p q c x0 x1 x2 x7 x8 a1 a4 a5) (hQ : pc_Q p x0 x3 x4 x9 a2 a3) (hz : z1 = z0) : wL_lawOf_158 post mc ms x0 x1 x2 x3 x4 x5 x7 x8 x9 z0 z1 kc ks (-1) fl a1 a2 a3 a4 a5 a6 a7 a8 a9 a10 a11 a12 := by
  obtain ⟨hp, hq, hpq, hc, kC, k4, k5, hR⟩ := hW
  have bad : (x5 < 0 ∨ ¬ x5 ≤ 50) → wL_lawOf_179 post mc ms x0 x1 x2 x3 x4 x5 x7 x8 x9 kc ks (-1) fl a1 a2 a3 a4 a5 a6 a7 a8 a9 a10 a11 a12 := fun hx => by
    unfold wL_lawOf_179 wL_lawOf_180
    refine br_t rfl ?_
    unfold wL_lawOf_202
    exact pc_213B h hp hq hx hR
  unfold wL_lawOf_158
  refine br_t hz (br_c (fun y => bad (Or.inl y)) (fun y => br_c (fun y2 => bad (Or.inr (Int32.not_le.mpr y2))) (fun y2 => ?_)))
  obtain ⟨X, hX, eX⟩ := nI_of2 (M := 50) (n := 50) (by decide) y (Int32.not_lt.mp y2)
  subst eX
  unfold wL_lawOf_180
  refine br_f (by decide) ?_
  unfold wL_lawOf_202
  rcases hQ with ⟨q1, q2, q3⟩ | ⟨q1, q2, q3, q4, ⟨a, ha, ea⟩, ⟨b, hb, eb⟩⟩
  · exact br_t q1 (pc_213G (w := 0) h hX ⟨hp, hq, hpq, hc, by omega, kC, pc_S0 q2 q3, k4, k5⟩ (by decide) (fun t => absurd rfl t) hR)
  · refine br_f q1 (br_c (fun g => ?_) (fun g => ?_))
    · obtain ⟨w, hw, ew⟩ := nI_of (pc_nle g)
      have w140 : w ≤ 140 := by
        have t := pc_140 a ha b hb X (by omega)
        rw [← ea, ← eb, ew] at t
        exact (nI_leI (b := 140) hw (by decide)).mp t
      rw [ew]
      exact pc_213G h hX ⟨hp, hq, hpq, hc, w140, kC, pc_SU q3 q4 hw (Or.inr ew), k4, k5⟩ (by decide) (fun _ => q2) hR
    · exact pc_213G (w := 0) h hX ⟨hp, hq, hpq, hc, by omega, kC, pc_SU q3 q4 (by decide) (Or.inl ⟨Int32.le_of_lt (pc_nlt g), rfl⟩), k4, k5⟩ (by decide) (fun t => absurd rfl t) hR
theorem pc_85 (h : post 1 ()) (hW : pc_W p q c x0 x1 x2 x7 x8 a1 a4 a5) (hx0 : x0 = nI p ∨ (x0 < 0 ∨ nI 7 ≤ x0)) (h2 : pc_O a2) (h3 : pc_O a3) (hz : z1 = z0) : wL_lawOf_85 post mc ms x0 x1 x2 x3 x4 x5 x7 x8 z0 z1 kc ks (-1) fl a1 a2 a3 a4 a5 a6 a7 a8 a9 a10 a11 a12 := by
  have hp := hW.1
  unfold wL_lawOf_85
  refine br_t hz ?_
  rcases hx0 with e | g
  · subst e
    refine pc_node1 hp (br_f (by decide) ?_)
    have N : (x3 < 0 ∨ 40 < x3 ∨ x4 < (-2) ∨ 2 < x4) → wL_lawOf_124 post mc ms (nI p) x1 x2 x3 x4 x5 x7 x8 kc ks (-1) fl a1 a2 a3 a4 a5 a6 a7 a8 a9 a10 a11 a12 := fun hb => by
      unfold wL_lawOf_124 wL_lawOf_125
      exact pc_toB hp hb (pc_node1 hp (br_f (by decide) (br_t rfl (pc_158 h hW (Or.inl ⟨rfl, h2, h3⟩) rfl))))
    refine br_c (fun g => N (Or.inl g)) (fun g1 => br_c (fun g => N (Or.inr (Or.inl g))) (fun g2 => br_c (fun g => N (Or.inr (Or.inr (Or.inl g)))) (fun g3 => br_c (fun g => N (Or.inr (Or.inr (Or.inr g)))) (fun g4 => ?_))))
    unfold wL_lawOf_125
    refine pc_toS hp g1 g2 g3 g4 (pc_node1 hp (br_f (by decide) (br_f (by decide) (pc_158 h hW (Or.inr ⟨by decide, rfl, fun i hi => ?_, fun i hi => ?_, ?_, pc_x4 g3 g4⟩) rfl))))
    · rw [pc_u, h2 i hi]
    · rw [pc_u, h3 i hi]
    · obtain ⟨a, ha, ea⟩ := nI_of2 (M := 40) (n := 40) (by decide) g1 (Int32.not_lt.mp g2)
      exact ⟨a, by omega, ea⟩
  · refine pc_node0 g (br_t rfl ?_)
    unfold wL_lawOf_124 wL_lawOf_125
    exact pc_toN g (pc_node0 g (br_t rfl (pc_158 h hW (Or.inl ⟨rfl, h2, h3⟩) rfl)))
theorem pc_C0 (h1 : ∀ j, j < 49 → a1 j = 0) : pc_C p q 0 a1 := by
  intro i j hi hj
  rw [h1 _ (by omega)]
  unfold pc_cap
  split <;> rfl
theorem pc_CU (hp : p < 7) (hq : q < 7) (hpq : p ≠ q) (h1 : ∀ j, j < 49 → a1 j = 0) : pc_C p q c (upd (upd a1 (p * 7 + q) (nI c)) (q * 7 + p) (nI c)) := by
  intro i j hi hj
  rw [pc_u, pc_u, h1 _ (by omega)]
  unfold pc_cap
  by_cases e1 : i = q ∧ j = p
  · rw [if_pos (by omega), if_pos (Or.inr e1)]
  · rw [if_neg (by omega)]
    by_cases e2 : i = p ∧ j = q
    · rw [if_pos (by omega), if_pos (Or.inl e2)]
    · rw [if_neg (by omega), if_neg (by omega)]
      rfl
/-- the state of a new object, as far as it matters -/
def pc_N (a1 a2 a3 a4 a5 : Nat → Int32) : Prop := (∀ j, j < 49 → a1 j = 0) ∧ pc_O a2 ∧ pc_O a3 ∧ pc_O a4 ∧ pc_O a5
theorem pc_55N (h : post 1 ()) (hN : pc_N a1 a2 a3 a4 a5) (hnp : pc_np x0 x1) : wL_lawOf_54 post mc ms x0 x1 x2 x3 x4 x5 0 kc ks (-1) fl a1 a2 a3 a4 a5 a6 a7 a8 a9 a10 a11 a12 := by
  obtain ⟨n1, n2, n3, n4, n5⟩ := hN
  unfold wL_lawOf_54 wL_lawOf_55
  refine pc_linkN hnp (br_t rfl ?_)
  rcases pk_ix x0 (n := 7) (by decide) with g | g | ⟨p, hp, e⟩
  · exact pc_85 (p := 0) (q := 0) (c := 0) h ⟨by omega, by omega, Or.inr rfl, by omega, pc_C0 n1, n4, n5, Or.inl ⟨hnp, rfl, rfl, rfl⟩⟩ (Or.inr (Or.inl g)) n2 n3 rfl
  · exact pc_85 (p := 0) (q := 0) (c := 0) h ⟨by omega, by omega, Or.inr rfl, by omega, pc_C0 n1, n4, n5, Or.inl ⟨hnp, rfl, rfl, rfl⟩⟩ (Or.inr (Or.inr g)) n2 n3 rfl
  · exact pc_85 (p := p) (q := 0) (c := 0) h ⟨hp, by omega, Or.inr rfl, by omega, pc_C0 n1, n4, n5, Or.inl ⟨hnp, rfl, rfl, rfl⟩⟩ (Or.inl e) n2 n3 rfl
theorem pc_33P (h : post 1 ()) (hN : pc_N a1 a2 a3 a4 a5) (hp : p < 7) (hq : q < 7) (hpq : p ≠ q) : wL_lawOf_33 post mc ms (nI p) (nI q) x2 x3 x4 x5 1 kc ks (-1) fl a1 a2 a3 a4 a5 a6 a7 a8 a9 a10 a11 a12 := by
  obtain ⟨n1, n2, n3, n4, n5⟩ := hN
  have B : (x2 < 0 ∨ 20 < x2) → wL_lawOf_54 post mc ms (nI p) (nI q) x2 x3 x4 x5 1 kc ks (-1) fl a1 a2 a3 a4 a5 a6 a7 a8 a9 a10 a11 a12 := fun hb => by
    unfold wL_lawOf_54 wL_lawOf_55
    exact pc_linkB hp hq hpq hb (br_f (by decide) (br_t rfl (pc_85 (p := p) (q := q) (c := 0) h ⟨hp, hq, Or.inl hpq, by omega, pc_C0 n1, n4, n5, Or.inr ⟨rfl, rfl, hpq, by decide, Or.inl ⟨rfl, rfl⟩⟩⟩ (Or.inl rfl) n2 n3 rfl)))
  unfold wL_lawOf_33
  refine br_f (by decide) (br_c (fun g => B (Or.inl g)) (fun g1 => br_c (fun g => B (Or.inr g)) (fun g2 => ?_)))
  obtain ⟨c, hc, ec⟩ := nI_of2 (M := 20) (n := 20) (by decide) g1 (Int32.not_lt.mp g2)
  unfold wL_lawOf_55
  refine pc_linkS hp hq hpq g1 g2 (br_f (by decide) (br_f (by decide) ?_))
  exact pc_85 (p := p) (q := q) (c := c) h ⟨hp, hq, Or.inl hpq, hc, by rw [ec]; exact pc_CU hp hq hpq n1, n4, n5, Or.inr ⟨rfl, rfl, hpq, by decide, Or.inr ⟨by decide, ec⟩⟩⟩ (Or.inl rfl) n2 n3 (n1 _ (by omega))
theorem pc_32 (h : post 1 ()) (hN : pc_N a1 a2 a3 a4 a5) (hnp : pc_np x0 x1) : wL_lawOf_32 post mc ms x0 x1 x2 x3 x4 x5 kc ks (-1) fl a1 a2 a3 a4 a5 a6 a7 a8 a9 a10 a11 a12 := by
  unfold wL_lawOf_32 wL_lawOf_33
  exact br_t rfl (pc_55N h hN hnp)
theorem pc_lawOf (h : post 1 ()) : wpL_lawOf post 13 226 () x0 x1 x2 x3 x4 x5 := by
  have hN : pc_N (fun _ => 0) (fun _ => 0) (fun _ => 0) (fun _ => 0) (fun _ => 0) := ⟨fun _ _ => rfl, fun _ _ => rfl, fun _ _ => rfl, fun _ _ => rfl, fun _ _ => rfl⟩
  refine ⟨by omega, by omega, 12, 212, by omega, by omega, by omega, by omega, by omega, by omega, by omega, by omega, by omega, by omega, by omega, by omega, by omega, by omega, by omega, by omega, by omega, by omega, by omega, by omega, by omega, by omega, by omega, by omega, by omega, by omega, ?_⟩
  rcases pk_ix x0 (n := 7) (by decide) with g | g | ⟨p, hp, e⟩
  · exact pc_node0 (Or.inl g) (br_t rfl (pc_32 h hN (Or.inl (Or.inl g))))
  · exact pc_node0 (Or.inr g) (br_t rfl (pc_32 h hN (Or.inl (Or.inr g))))
  · rcases pk_ix x1 (n := 7) (by decide) with g | g | ⟨q, hq, e'⟩
    · rw [e]
      exact pc_node1 hp (br_f (by decide) (pc_node0 (Or.inl g) (br_t rfl (pc_32 h hN (Or.inr (Or.inl (Or.inl g)))))))
    · rw [e]
      exact pc_node1 hp (br_f (by decide) (pc_node0 (Or.inr g) (br_t rfl (pc_32 h hN (Or.inr (Or.inl (Or.inr g)))))))
    · rw [e, e']
      refine pc_node1 hp (br_f (by decide) (pc_node1 hq (br_f (by decide) (br_c (fun t => pc_32 h hN (Or.inr (Or.inr t))) (fun t => pc_33P h hN hp hq (fun y => t (by rw [y])))))))
end
end
section
/-! ===== the law ===== -/
theorem pc_cell {post : Int32 → Prop} {L k : Nat} {xs : Nat → Int32} (hL : L ≤ 6) (hk : k < 6) (H : ∀ r, post r) : wpL_cellAt post L xs () (nI k) :=
  pk_le L k (fun _ => H 0) (fun z => ⟨pk_in k L z, H _⟩)
theorem i_vc (xs : Nat → Int32) (L : Nat) (hL : L ≤ 6) : wpL_law (fun r => r = 1) L xs :=
  pc_cell (k := 0) hL (by omega) (fun _ => pc_cell (k := 1) hL (by omega) (fun _ => pc_cell (k := 2) hL (by omega) (fun _ => pc_cell (k := 3) hL (by omega) (fun _ => pc_cell (k := 4) hL (by omega) (fun _ => pc_cell (k := 5) hL (by omega) (fun _ => ⟨13, 226, by omega, by omega, pc_lawOf rfl⟩))))))
end
