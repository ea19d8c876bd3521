section
/-! numbers, and the pure picture of a path of contacts -/
theorem cn_at {f : Nat → Int32} {x v : Int32} {n : Nat} (hx : x = nI n) (hn : n < 2 ^ 31) (h : f n = v) : f x.toNatClampNeg = v := by
  rw [hx, nI_clamp hn, h]
theorem cn_101 (k t : Nat) : (101 : Int32) * nI k + nI t = nI (101 * k + t) := by
  rw [show (101 : Int32) = nI 101 from rfl, pk_mul, nI_add]
theorem cn_100 (k t : Nat) : (100 : Int32) * nI k + nI t = nI (100 * k + t) := by
  rw [show (100 : Int32) = nI 100 from rfl, pk_mul, nI_add]
theorem cn_pr {n : Nat} (h : 1 ≤ n) : nI n - 1 = nI (n - 1) := by
  obtain ⟨k, rfl⟩ : ∃ k, n = k + 1 := ⟨n - 1, by omega⟩
  rw [nI_pred, Nat.add_sub_cancel]
theorem cn_div {x y : Int32} {a d : Nat} (hx : x = nI a) (hy : y = nI d) (ha : a < 2 ^ 31) (h0 : 0 < d) (hd : d < 2 ^ 31) : x / y = nI (a / d) := by
  rw [hx, hy, pk_div ha h0 hd]
theorem cn_rem {x y : Int32} {a d : Nat} (hx : x = nI a) (hy : y = nI d) (ha : a < 2 ^ 31) (h0 : 0 < d) (hd : d < 2 ^ 31) : x - x / y * y = nI (a % d) := by
  rw [hx, hy, pk_rem ha h0 hd]
theorem cn_ne {P : Prop} {x : Int32} (n : Nat) (h : P) (hx : x = nI n := by rfl) (h0 : 0 < n := by omega) (hn : n < 2 ^ 31 := by omega) : ¬ x = 0 ∧ P :=
  ⟨by rw [hx]; exact nI_ne0 h0 hn, h⟩
/-- how many ticks contact k takes -/
def cn_nx (sz : Nat) (rt : Nat → Nat) (k : Nat) : Nat := (sz + rt k - 1) / rt k
/-- when the bundle comes in at the path's node i, were there no end of the contacts -/
def cn_T (W sz : Nat) (rt dl : Nat → Nat) : Nat → Nat
  | 0 => 0
  | i + 1 => max (cn_T W sz rt dl i) (W * i) + cn_nx sz rt i + dl i
/-- when it begins on contact i -/
def cn_B (W sz : Nat) (rt dl : Nat → Nat) (i : Nat) : Nat := max (cn_T W sz rt dl i) (W * i)
/-- the first i contacts end in time -/
def cn_ok (W sz : Nat) (rt dl : Nat → Nat) : Nat → Bool
  | 0 => true
  | i + 1 => cn_ok W sz rt dl i && decide (cn_B W sz rt dl i + cn_nx sz rt i ≤ 100)
/-- the earliest coming in at node i -/
def cn_Ar (W sz : Nat) (rt dl : Nat → Nat) (i : Nat) : Nat := if cn_ok W sz rt dl i = true then cn_T W sz rt dl i else 1000000
/-- the bounds of the picture -/
def cn_P (m W sz : Nat) (nd rt dl : Nat → Nat) : Prop :=
  1 ≤ m ∧ m ≤ 5 ∧ W ≤ 7 ∧ 1 ≤ sz ∧ sz ≤ 30 ∧ (∀ i, nd i < 6) ∧ (∀ i j, i ≤ 5 → j ≤ 5 → nd i = nd j → i = j) ∧ (∀ i, 1 ≤ rt i ∧ rt i ≤ 8) ∧ (∀ i, dl i ≤ 7)
theorem cn_nx_b {sz k : Nat} {rt : Nat → Nat} (h1 : 1 ≤ sz) (h2 : sz ≤ 30) (hr : 1 ≤ rt k ∧ rt k ≤ 8) : 1 ≤ cn_nx sz rt k ∧ cn_nx sz rt k ≤ 30 := by
  unfold cn_nx
  obtain ⟨ha, hb⟩ := hr
  generalize rt k = r at ha hb ⊢
  constructor
  · exact (Nat.le_div_iff_mul_le (by omega)).mpr (by omega)
  · refine Nat.div_le_of_le_mul ?_
    have h3 : 30 * 1 ≤ 30 * r := Nat.mul_le_mul_left 30 ha
    have : sz + r - 1 ≤ r * 30 := by
      have e : r * 30 = 30 * r := Nat.mul_comm _ _
      omega
    exact this
theorem cn_T_S {W sz i : Nat} {rt dl : Nat → Nat} : cn_T W sz rt dl (i + 1) = cn_B W sz rt dl i + cn_nx sz rt i + dl i := rfl
theorem cn_B_ge {W sz i : Nat} {rt dl : Nat → Nat} : cn_T W sz rt dl i ≤ cn_B W sz rt dl i := Nat.le_max_left _ _
theorem cn_T_b {W sz : Nat} {rt dl : Nat → Nat} (hW : W ≤ 7) (h1 : 1 ≤ sz) (h2 : sz ≤ 30) (hr : ∀ i, 1 ≤ rt i ∧ rt i ≤ 8) (hd : ∀ i, dl i ≤ 7) : ∀ i, cn_T W sz rt dl i ≤ 44 * i ∧ cn_B W sz rt dl i ≤ 44 * i := by
  intro i
  induction i with
  | zero => exact ⟨Nat.le_refl 0, by unfold cn_B; exact Nat.le_refl 0⟩
  | succ i ih =>
    have a := (cn_nx_b h1 h2 (hr i)).2
    have b := hd i
    have e : cn_T W sz rt dl (i + 1) ≤ 44 * (i + 1) := by
      rw [cn_T_S]
      omega
    refine ⟨e, ?_⟩
    unfold cn_B
    refine Nat.max_le.mpr ⟨e, ?_⟩
    exact Nat.mul_le_mul_right (i + 1) (by omega)
theorem cn_ok_le {W sz : Nat} {rt dl : Nat → Nat} {i j : Nat} (h : i ≤ j) (hj : cn_ok W sz rt dl j = true) : cn_ok W sz rt dl i = true := by
  induction j with
  | zero =>
    rw [show i = 0 by omega]
    exact hj
  | succ j ih =>
    by_cases e : i = j + 1
    · rw [e]; exact hj
    · refine ih (by omega) ?_
      unfold cn_ok at hj
      exact (Bool.and_eq_true_iff.mp hj).1
theorem cn_ok_b {W sz : Nat} {rt dl : Nat → Nat} {i : Nat} (hj : cn_ok W sz rt dl (i + 1) = true) : cn_B W sz rt dl i + cn_nx sz rt i ≤ 100 := by
  unfold cn_ok at hj
  exact of_decide_eq_true (Bool.and_eq_true_iff.mp hj).2
/-- one contact further: from the earliest at node k to the earliest at node k + 1 -/
theorem cn_Ar_S {W sz k : Nat} {rt dl : Nat → Nat} (h : cn_Ar W sz rt dl k < 1000000) :
    cn_Ar W sz rt dl k = cn_T W sz rt dl k ∧ cn_Ar W sz rt dl (k + 1) = if cn_B W sz rt dl k + cn_nx sz rt k ≤ 100 then cn_B W sz rt dl k + cn_nx sz rt k + dl k else 1000000 := by
  have hk : cn_ok W sz rt dl k = true := by
    unfold cn_Ar at h
    by_cases e : cn_ok W sz rt dl k = true
    · exact e
    · rw [if_neg e] at h
      omega
  refine ⟨if_pos hk, ?_⟩
  by_cases g : cn_B W sz rt dl k + cn_nx sz rt k ≤ 100
  · have e2 : cn_ok W sz rt dl (k + 1) = true := by
      unfold cn_ok
      exact Bool.and_eq_true_iff.mpr ⟨hk, decide_eq_true g⟩
    rw [if_pos g]
    exact if_pos e2
  · have e2 : ¬ cn_ok W sz rt dl (k + 1) = true := fun z => g (cn_ok_b z)
    rw [if_neg g]
    exact if_neg e2
theorem cn_Ar_N {W sz k : Nat} {rt dl : Nat → Nat} (h : ¬ cn_Ar W sz rt dl k < 1000000) (hT : cn_T W sz rt dl k < 1000000) : cn_Ar W sz rt dl k = 1000000 ∧ cn_Ar W sz rt dl (k + 1) = 1000000 := by
  have hk : ¬ cn_ok W sz rt dl k = true := by
    intro e
    unfold cn_Ar at h
    rw [if_pos e] at h
    exact h hT
  exact ⟨if_neg hk, if_neg (fun z => hk (cn_ok_le (by omega) z))⟩
end
section
/-! ticksFor, firstBegin, comingIn -/
theorem cn_tk {post : Int32 → Prop} {c b t rc : Int32} {a1 a2 a3 a4 a5 a6 a7 a8 a9 a10 a11 a12 a13 a14 a15 a16 a17 a18 a19 a20 a21 : Nat → Int32} {k sz : Nat} {rt : Nat → Nat} {p0 p1 : Int32} (h0 : p0 = nI k) (h1 : p1 = nI sz) (hk : k < 10) (hr : a6 k = nI (rt k)) (hb : 1 ≤ rt k ∧ rt k ≤ 8) (hs : sz ≤ 30)
    (hp : post (nI (cn_nx sz rt k))) : wpX_ticksFor post (c, b, t, rc, a1, a2, a3, a4, a5, a6, a7, a8, a9, a10, a11, a12, a13, a14, a15, a16, a17, a18, a19, a20, a21) p0 p1 := by
  subst h0 h1
  have e : a6 (nI k).toNatClampNeg = nI (rt k) := cn_at rfl (by omega) hr
  refine ⟨pk_in k 10 hk, pk_in k 10 hk, ?_, ?_⟩
  · rw [e]
    exact nI_ne0 (by omega) (by omega)
  · rw [e, nI_add, cn_pr (by omega), pk_div (by omega) (by omega) (by omega)]
    exact hp
/-- the loop of firstBegin, over a row that isn't busy -/
theorem cn_fbl {post : Int32 → Prop} {c b t rc : Int32} {a1 a2 a3 a4 a5 a6 a7 a8 a9 a10 a11 a12 a13 a14 a15 a16 a17 a18 a19 a20 a21 : Nat → Int32} {k q b0 : Nat} (hk : k < 10) (hq : 1 ≤ q) (hq2 : q ≤ 1000) (hb : b0 ≤ 1000000) (h5 : a5 k = nI 100) (h8 : ∀ j, j < 101 → a8 (101 * k + j) = 0)
    (hp : post (if b0 + q ≤ 100 then nI b0 else -1)) : ∃ n, wX_firstBegin_29 post (nI k) (nI q) c b t rc a1 a2 a3 a4 a5 a6 a7 a8 a9 a10 a11 a12 a13 a14 a15 a16 a17 a18 a19 a20 a21 n 0 (nI b0) := by
  have e5 : a5 (nI k).toNatClampNeg = nI 100 := cn_at rfl (by omega) h5
  have stop : ∀ n i, 100 ≤ b0 + i → i ≤ 1000 → post (-1) → wX_firstBegin_29 post (nI k) (nI q) c b t rc a1 a2 a3 a4 a5 a6 a7 a8 a9 a10 a11 a12 a13 a14 a15 a16 a17 a18 a19 a20 a21 (n + 1) (nI i) (nI (b0 + i)) := by
    intro n i hi hi2 hpp
    exact ⟨pk_in k 10 hk, pk_le 100 (b0 + i) (fun _ => hpp) (fun z => absurd z (by omega)) e5⟩
  have go : ∀ n i, b0 + i < 100 → i ≤ 1000 → (i + 1 = q → post (nI b0)) → (i + 1 ≠ q → wX_firstBegin_29 post (nI k) (nI q) c b t rc a1 a2 a3 a4 a5 a6 a7 a8 a9 a10 a11 a12 a13 a14 a15 a16 a17 a18 a19 a20 a21 n (nI (i + 1)) (nI (b0 + (i + 1)))) → wX_firstBegin_29 post (nI k) (nI q) c b t rc a1 a2 a3 a4 a5 a6 a7 a8 a9 a10 a11 a12 a13 a14 a15 a16 a17 a18 a19 a20 a21 (n + 1) (nI i) (nI (b0 + i)) := by
    intro n i hi hi2 h1 h2
    refine ⟨pk_in k 10 hk, pk_le 100 (b0 + i) (fun z => absurd z (by omega)) (fun _ => ⟨pk_in (101 * k + (b0 + i)) 1010 (by omega) (cn_101 k (b0 + i)), br_t (cn_at (cn_101 k (b0 + i)) (by omega) (h8 _ (by omega))) ?_⟩) e5⟩
    refine pk_eq (i + 1) q (fun z => ?_) (fun z => nm_r (nI_1 (b0 + i)) ?_) (nI_1 i)
    · have e : nI (b0 + i) - nI q + 1 = nI b0 := by
        rw [← z, ← nI_1 i, ← nI_add]
        grind
      rw [e]
      exact h1 z
    · rw [nI_1]
      exact h2 z
  by_cases h : b0 + q ≤ 100
  · rw [if_pos h] at hp
    exact pk_loop (σ := Unit) (fun n i _ => wX_firstBegin_29 post (nI k) (nI q) c b t rc a1 a2 a3 a4 a5 a6 a7 a8 a9 a10 a11 a12 a13 a14 a15 a16 a17 a18 a19 a20 a21 n (nI i) (nI (b0 + i))) (fun _ _ => True) (q - 1) 0 () (by omega) trivial
      (fun n _ _ => go n (q - 1) (by omega) (by omega) (fun _ => hp) (fun z => absurd z (by omega)))
      (fun n i _ hi _ hw => go n i (by omega) (by omega) (fun z => absurd z (by omega)) (fun _ => hw () trivial))
  · rw [if_neg h] at hp
    exact pk_loop (σ := Unit) (fun n i _ => wX_firstBegin_29 post (nI k) (nI q) c b t rc a1 a2 a3 a4 a5 a6 a7 a8 a9 a10 a11 a12 a13 a14 a15 a16 a17 a18 a19 a20 a21 n (nI i) (nI (b0 + i))) (fun _ _ => True) (100 - b0) 0 () (by omega) trivial
      (fun n _ _ => stop n (100 - b0) (by omega) (by omega) hp)
      (fun n i _ hi _ hw => go n i (by omega) (by omega) (fun z => absurd z (by omega)) (fun _ => hw () trivial))
theorem cn_fb {post : Int32 → Prop} {c b t rc : Int32} {a1 a2 a3 a4 a5 a6 a7 a8 a9 a10 a11 a12 a13 a14 a15 a16 a17 a18 a19 a20 a21 : Nat → Int32} {k r s q : Nat} {p0 p1 p2 : Int32} (h0 : p0 = nI k) (h1 : p1 = nI r) (h2 : p2 = nI q) (hk : k < 10) (hq : 1 ≤ q) (hq2 : q ≤ 1000) (hr : r ≤ 1000000) (hs : s ≤ 1000000) (h4 : a4 k = nI s) (h5 : a5 k = nI 100) (h8 : ∀ j, j < 101 → a8 (101 * k + j) = 0)
    (hp : post (if max r s + q ≤ 100 then nI (max r s) else -1)) : wpX_firstBegin post (c, b, t, rc, a1, a2, a3, a4, a5, a6, a7, a8, a9, a10, a11, a12, a13, a14, a15, a16, a17, a18, a19, a20, a21) p0 p1 p2 := by
  subst h0 h1 h2
  have e4 : a4 (nI k).toNatClampNeg = nI s := cn_at rfl (by omega) h4
  refine ⟨pk_in k 10 hk, pk_le r s (fun z => ⟨pk_in k 10 hk, nm_r e4 ?_⟩) (fun z => ?_) rfl e4⟩
  · rw [show max r s = s by omega] at hp
    exact cn_fbl hk hq hq2 hs h5 h8 hp
  · rw [show max r s = r by omega] at hp
    exact cn_fbl hk hq hq2 hr h5 h8 hp
/-- never ready, never in -/
theorem cn_ciN {post : Int32 → Prop} {c b t rc : Int32} {a1 a2 a3 a4 a5 a6 a7 a8 a9 a10 a11 a12 a13 a14 a15 a16 a17 a18 a19 a20 a21 : Nat → Int32} {k : Nat} {p0 p1 p2 : Int32} (h0 : p0 = nI k) (h1 : p1 = nI 1000000) (hk : k < 10) (hp : post (nI 1000000)) : wpX_comingIn post (c, b, t, rc, a1, a2, a3, a4, a5, a6, a7, a8, a9, a10, a11, a12, a13, a14, a15, a16, a17, a18, a19, a20, a21) p0 p1 p2 := by
  subst h0 h1
  exact ⟨pk_in k 10 hk, br_c (fun _ => pk_lt 1000000 1000000 (fun z => absurd z (by omega)) (fun _ => hp)) (fun _ => hp)⟩
/-- a contact that is cancelled -/
theorem cn_ciC {post : Int32 → Prop} {c b t rc : Int32} {a1 a2 a3 a4 a5 a6 a7 a8 a9 a10 a11 a12 a13 a14 a15 a16 a17 a18 a19 a20 a21 : Nat → Int32} {k : Nat} {p0 p1 p2 : Int32} (h0 : p0 = nI k) (hk : k < 10) (h1 : ¬ a1 k = 0) (hp : post (nI 1000000)) : wpX_comingIn post (c, b, t, rc, a1, a2, a3, a4, a5, a6, a7, a8, a9, a10, a11, a12, a13, a14, a15, a16, a17, a18, a19, a20, a21) p0 p1 p2 := by
  subst h0
  exact ⟨pk_in k 10 hk, br_f (by rw [nI_clamp (by omega)]; exact h1) hp⟩
/-- a contact that isn't cancelled, its row not busy -/
theorem cn_ciL {post : Int32 → Prop} {c b t rc : Int32} {a1 a2 a3 a4 a5 a6 a7 a8 a9 a10 a11 a12 a13 a14 a15 a16 a17 a18 a19 a20 a21 : Nat → Int32} {k r s d sz : Nat} {rt : Nat → Nat} {p0 p1 p2 : Int32} (h0 : p0 = nI k) (h1 : p1 = nI r) (h2 : p2 = nI sz) (hk : k < 10) (hr : r < 1000000) (hs : s ≤ 1000000) (hz1 : 1 ≤ sz) (hz : sz ≤ 30)
    (g1 : a1 k = 0) (h4 : a4 k = nI s) (h5 : a5 k = nI 100) (h6 : a6 k = nI (rt k)) (hb : 1 ≤ rt k ∧ rt k ≤ 8) (h7 : a7 k = nI d) (h8 : ∀ j, j < 101 → a8 (101 * k + j) = 0)
    (hp : post (nI (if max r s + cn_nx sz rt k ≤ 100 then max r s + cn_nx sz rt k + d else 1000000))) : wpX_comingIn post (c, b, t, rc, a1, a2, a3, a4, a5, a6, a7, a8, a9, a10, a11, a12, a13, a14, a15, a16, a17, a18, a19, a20, a21) p0 p1 p2 := by
  subst h0 h1 h2
  have hn := cn_nx_b hz1 hz hb
  have e7 : a7 (nI k).toNatClampNeg = nI d := cn_at rfl (by omega) h7
  refine ⟨pk_in k 10 hk, br_t (cn_at rfl (by omega) g1) (pk_lt r 1000000 (fun _ => ?_) (fun z => absurd z (by omega)))⟩
  refine cn_tk rfl rfl hk h6 hb hz ?_
  refine cn_fb rfl rfl rfl hk hn.1 (by omega) (by omega) hs h4 h5 h8 ?_
  by_cases h : max r s + cn_nx sz rt k ≤ 100
  · rw [if_pos h] at hp
    rw [if_pos h]
    refine br_t (nI_pos' (by omega)) ⟨pk_in k 10 hk, ?_⟩
    rw [e7, nI_add, nI_add]
    exact hp
  · rw [if_neg h] at hp
    rw [if_neg h]
    exact br_f (by decide) hp
/-- comingIn answers A (k + 1) for A k, whatever the rest of the state -/
def cn_CI (m sz : Nat) (A : Nat → Nat) (a1 a4 a5 a6 a7 a8 : Nat → Int32) : Prop :=
  ∀ k, k < m → ∀ (p : Int32 → Prop) {c b t rc : Int32} {a2 a3 a9 a10 a11 a12 a13 a14 a15 a16 a17 a18 a19 a20 a21 : Nat → Int32}, p (nI (A (k + 1))) → wpX_comingIn p (c, b, t, rc, a1, a2, a3, a4, a5, a6, a7, a8, a9, a10, a11, a12, a13, a14, a15, a16, a17, a18, a19, a20, a21) (nI k) (nI (A k)) (nI sz)
/-- firstBegin answers B k for A k -/
def cn_FB (m : Nat) (A q B : Nat → Nat) (a4 a5 a8 : Nat → Int32) : Prop :=
  ∀ k, k < m → ∀ (p : Int32 → Prop) {c b t rc : Int32} {a1 a2 a3 a6 a7 a9 a10 a11 a12 a13 a14 a15 a16 a17 a18 a19 a20 a21 : Nat → Int32}, p (nI (B k)) → wpX_firstBegin p (c, b, t, rc, a1, a2, a3, a4, a5, a6, a7, a8, a9, a10, a11, a12, a13, a14, a15, a16, a17, a18, a19, a20, a21) (nI k) (nI (A k)) (nI (q k))
/-- contacts as the law makes them, none cancelled, nothing booked -/
def cn_Live (m W : Nat) (rt dl : Nat → Nat) (a1 a4 a5 a6 a7 a8 : Nat → Int32) : Prop :=
  ∀ k, k < m → a1 k = 0 ∧ a4 k = nI (W * k) ∧ a5 k = nI 100 ∧ a6 k = nI (rt k) ∧ a7 k = nI (dl k) ∧ ∀ j, j < 101 → a8 (101 * k + j) = 0
theorem cn_CI_live {m W sz : Nat} {nd rt dl : Nat → Nat} {a1 a4 a5 a6 a7 a8 : Nat → Int32} (P : cn_P m W sz nd rt dl) (H : cn_Live m W rt dl a1 a4 a5 a6 a7 a8) : cn_CI m sz (cn_Ar W sz rt dl) a1 a4 a5 a6 a7 a8 := by
  obtain ⟨p1, p2, p3, p4, p5, p6, p7, p8, p9⟩ := P
  intro k hk p c b t rc a2 a3 a9 a10 a11 a12 a13 a14 a15 a16 a17 a18 a19 a20 a21 hp
  obtain ⟨g1, g4, g5, g6, g7, g8⟩ := H k hk
  have hT := (cn_T_b p3 p4 p5 p8 p9 k).1
  have hWk : W * k ≤ 7 * k := Nat.mul_le_mul_right k p3
  by_cases h : cn_Ar W sz rt dl k < 1000000
  · obtain ⟨e1, e2⟩ := cn_Ar_S h
    rw [e2] at hp
    rw [e1] at h ⊢
    exact cn_ciL rfl rfl rfl (by omega) h (by omega) p4 p5 g1 g4 g5 g6 (p8 k) g7 g8 hp
  · obtain ⟨e1, e2⟩ := cn_Ar_N h (by omega)
    rw [e2] at hp
    exact cn_ciN rfl (by rw [e1]) (by omega) hp
theorem cn_FB_live {m W sz : Nat} {nd rt dl : Nat → Nat} {a1 a4 a5 a6 a7 a8 : Nat → Int32} (P : cn_P m W sz nd rt dl) (H : cn_Live m W rt dl a1 a4 a5 a6 a7 a8) (hok : cn_ok W sz rt dl m = true) :
    cn_FB m (cn_Ar W sz rt dl) (cn_nx sz rt) (cn_B W sz rt dl) a4 a5 a8 := by
  obtain ⟨p1, p2, p3, p4, p5, p6, p7, p8, p9⟩ := P
  intro k hk p c b t rc a1' a2 a3 a6' a7' a9 a10 a11 a12 a13 a14 a15 a16 a17 a18 a19 a20 a21 hp
  obtain ⟨g1, g4, g5, g6, g7, g8⟩ := H k hk
  have hT := (cn_T_b p3 p4 p5 p8 p9 k).1
  have hn := cn_nx_b p4 p5 (p8 k)
  have hWk : W * k ≤ 7 * k := Nat.mul_le_mul_right k p3
  have hb : cn_B W sz rt dl k + cn_nx sz rt k ≤ 100 := cn_ok_b (cn_ok_le (show k + 1 ≤ m by omega) hok)
  rw [show cn_Ar W sz rt dl k = cn_T W sz rt dl k from if_pos (cn_ok_le (by omega) hok)]
  refine cn_fb rfl rfl rfl (by omega) hn.1 (by omega) (by omega) (by omega) g4 g5 g8 ?_
  rw [show max (cn_T W sz rt dl k) (W * k) = cn_B W sz rt dl k from rfl, if_pos hb]
  exact hp
end
section
/-! spread: the earliest coming in at the nodes, over at most n contacts -/
/-- what stands at path node j after n rounds from node s -/
def cn_F (s n : Nat) (A : Nat → Nat) (j : Nat) : Nat := if s ≤ j ∧ j ≤ s + n then A j else 1000000
/-- the table early: path nodes hold G, all others NEVER -/
def cn_E (m : Nat) (nd G : Nat → Nat) (f : Nat → Int32) : Prop := (∀ j, j ≤ m → f (nd j) = nI (G j)) ∧ ∀ v, v < 6 → (∀ j, j ≤ m → v ≠ nd j) → f v = nI 1000000
/-- the path as the tables from and to hold it -/
def cn_N (m : Nat) (nd : Nat → Nat) (a2 a3 : Nat → Int32) : Prop := m ≤ 5 ∧ (∀ j, nd j < 6) ∧ (∀ i j, i ≤ 5 → j ≤ 5 → nd i = nd j → i = j) ∧ ∀ k, k < m → a2 k = nI (nd k) ∧ a3 k = nI (nd (k + 1))
theorem cn_F0 {s n : Nat} {A : Nat → Nat} : cn_F s (n + 1) A 0 = cn_F s n A 0 := by
  unfold cn_F
  by_cases h : s ≤ 0
  · rw [if_pos ⟨h, by omega⟩, if_pos ⟨h, by omega⟩]
  · rw [if_neg (fun z => h z.1), if_neg (fun z => h z.1)]
theorem cn_Fmin {s n i : Nat} {A : Nat → Nat} (hA : ∀ j, A j ≤ 1000000) :
    (cn_F s n A (i + 1) ≤ (if s ≤ i ∧ i ≤ s + n then A (i + 1) else 1000000) → cn_F s n A (i + 1) = cn_F s (n + 1) A (i + 1)) ∧ ((if s ≤ i ∧ i ≤ s + n then A (i + 1) else 1000000) < cn_F s n A (i + 1) → (if s ≤ i ∧ i ≤ s + n then A (i + 1) else 1000000) = cn_F s (n + 1) A (i + 1)) := by
  have hAi := hA (i + 1)
  unfold cn_F
  by_cases h1 : s ≤ i ∧ i ≤ s + n
  · have h3 : s ≤ i + 1 ∧ i + 1 ≤ s + (n + 1) := by omega
    rw [if_pos h1, if_pos h3]
    by_cases h2 : s ≤ i + 1 ∧ i + 1 ≤ s + n
    · rw [if_pos h2]
      exact ⟨fun _ => rfl, fun _ => rfl⟩
    · rw [if_neg h2]
      exact ⟨fun h => by omega, fun _ => rfl⟩
  · rw [if_neg h1]
    by_cases h2 : s ≤ i + 1 ∧ i + 1 ≤ s + n
    · have h3 : s ≤ i + 1 ∧ i + 1 ≤ s + (n + 1) := by omega
      rw [if_pos h2, if_pos h3]
      exact ⟨fun _ => rfl, fun h => absurd h (by omega)⟩
    · rw [if_neg h2]
      by_cases h3 : s ≤ i + 1 ∧ i + 1 ≤ s + (n + 1)
      · exact absurd (show s ≤ i ∧ i ≤ s + n by omega) h1
      · rw [if_neg h3]
        exact ⟨fun _ => rfl, fun _ => rfl⟩
theorem cn_fill {f s : Nat → Int32} {i k : Nat} {x : Int32} (hk : k = i) (h : ∀ j, j < i → s j = f j) (hx : x = f i) : ∀ j, j < i + 1 → upd s k x j = f j := by
  intro j hj
  rw [hk]
  by_cases e : j = i
  · rw [e, pk_us, hx]
  · rw [pk_un e]
    exact h j (by omega)
theorem cn_Eupd {m i k : Nat} {nd G G' : Nat → Nat} {f : Nat → Int32} {V : Int32} (hm : m ≤ 5) (inj : ∀ i j, i ≤ 5 → j ≤ 5 → nd i = nd j → i = j) (h : cn_E m nd G f) (hi : i ≤ m) (hk : k = nd i) (hV : V = nI (G' i)) (hG : ∀ j, j ≤ m → j ≠ i → G' j = G j) : cn_E m nd G' (upd f k V) := by
  subst hk hV
  refine ⟨fun j hj => ?_, fun v hv ho => ?_⟩
  · by_cases e : j = i
    · rw [e, pk_us]
    · rw [pk_un (fun z => e (inj j i (by omega) (by omega) z)), hG j hj e]
      exact h.1 j hj
  · rw [pk_un (ho i hi)]
    exact h.2 v hv ho
theorem cn_s78 {post : St2 → Prop} {J : Int32 → (Nat → Int32) → (Nat → Int32) → (Nat → Int32) → (Nat → Int32) → (Nat → Int32) → (Nat → Int32) → (Nat → Int32) → (Nat → Int32) → (Nat → Int32) → (Nat → Int32) → (Nat → Int32) → (Nat → Int32) → (Nat → Int32) → (Nat → Int32) → (Nat → Int32) → (Nat → Int32) → (Nat → Int32) → (Nat → Int32) → (Nat → Int32) → (Nat → Int32) → (Nat → Int32) → Prop} {c b t rc : Int32} {a1 a2 a3 a4 a5 a6 a7 a8 a9 a10 a11 a12 a13 a14 a15 a16 a17 a18 a19 a20 a21 : Nat → Int32} {m sz s n : Nat} {nd A : Nat → Nat} {x4 x5 : Int32} (hc : c = nI m) (N : cn_N m nd a2 a3) (hA : ∀ j, A j ≤ 1000000) (HC : cn_CI m sz A a1 a4 a5 a6 a7 a8)
    (h21 : ∀ j, j ≤ m → a21 (nd j) = nI (cn_F s n A j)) (h20 : cn_E m nd (cn_F s n A) a20) (H : ∀ f, cn_E m nd (cn_F s (n + 1) A) f → ∀ x, x = x5 + 1 → J x a1 a2 a3 a4 a5 a6 a7 a8 a9 a10 a11 a12 a13 a14 a15 a16 a17 a18 a19 f a21) :
    ∃ fu, wX_spread_78 post J (nI sz) x4 x5 c b t rc fu 0 a1 a2 a3 a4 a5 a6 a7 a8 a9 a10 a11 a12 a13 a14 a15 a16 a17 a18 a19 a20 a21 := by
  subst hc
  obtain ⟨hm, nd6, inj, net⟩ := N
  have FB : ∀ k j, cn_F s k A j ≤ 1000000 := by
    intro k j
    unfold cn_F
    split
    · exact hA j
    · exact Nat.le_refl _
  refine pk_loop (fun fu i f => wX_spread_78 post J (nI sz) x4 x5 (nI m) b t rc fu (nI i) a1 a2 a3 a4 a5 a6 a7 a8 a9 a10 a11 a12 a13 a14 a15 a16 a17 a18 a19 f a21) (fun i f => cn_E m nd (fun j => cn_F s (if j ≤ i then n + 1 else n) A j) f) m 0 a20 (by omega) ?_ ?_ ?_
  · refine ⟨fun j hj => ?_, h20.2⟩
    by_cases e : j = 0
    · subst e
      show a20 (nd 0) = nI (cn_F s (if 0 ≤ 0 then n + 1 else n) A 0)
      rw [if_pos (Nat.le_refl 0), cn_F0]
      exact h20.1 0 hj
    · show a20 (nd j) = nI (cn_F s (if j ≤ 0 then n + 1 else n) A j)
      rw [if_neg (by omega)]
      exact h20.1 j hj
  · intro fu f h
    refine pk_le m m (fun _ => H f ⟨fun j hj => ?_, h.2⟩) (fun z => absurd z (by omega))
    have e : f (nd j) = nI (cn_F s (if j ≤ m then n + 1 else n) A j) := h.1 j hj
    rw [if_pos hj] at e
    exact e
  · intro fu i f hi h hw
    have e2 : a2 (nI i).toNatClampNeg = nI (nd i) := cn_at rfl (by omega) (net i hi).1
    have e3 : a3 (nI i).toNatClampNeg = nI (nd (i + 1)) := cn_at rfl (by omega) (net i hi).2
    have b2 := nd6 i
    have b3 := nd6 (i + 1)
    have c3 : (a3 (nI i).toNatClampNeg).toNatClampNeg = nd (i + 1) := pk_cl _ e3
    have e21 : a21 (a2 (nI i).toNatClampNeg).toNatClampNeg = nI (cn_F s n A i) := cn_at e2 (by omega) (h21 i (by omega))
    have e20 : f (a3 (nI i).toNatClampNeg).toNatClampNeg = nI (cn_F s n A (i + 1)) := by
      refine cn_at e3 (by omega) ?_
      have e : f (nd (i + 1)) = nI (cn_F s (if i + 1 ≤ i then n + 1 else n) A (i + 1)) := h.1 (i + 1) (by omega)
      rw [if_neg (by omega)] at e
      exact e
    have M := cn_Fmin (s := s) (n := n) (i := i) hA
    have up : ∀ V, V = nI (cn_F s (n + 1) A (i + 1)) → cn_E m nd (fun j => cn_F s (if j ≤ i + 1 then n + 1 else n) A j) (upd f (a3 (nI i).toNatClampNeg).toNatClampNeg V) := by
      intro V hV
      refine cn_Eupd (i := i + 1) hm inj h (by omega) c3 ?_ ?_
      · show V = nI (cn_F s (if i + 1 ≤ i + 1 then n + 1 else n) A (i + 1))
        rw [if_pos (Nat.le_refl _)]
        exact hV
      · intro j hj hne
        show cn_F s (if j ≤ i + 1 then n + 1 else n) A j = cn_F s (if j ≤ i then n + 1 else n) A j
        by_cases e : j ≤ i
        · rw [if_pos e, if_pos (by omega)]
        · rw [if_neg e, if_neg (by omega)]
    have RB : (if s ≤ i ∧ i ≤ s + n then A (i + 1) else 1000000) ≤ 1000000 := by
      split
      · exact hA _
      · exact Nat.le_refl _
    have ci : ∀ p : Int32 → Prop, p (nI (if s ≤ i ∧ i ≤ s + n then A (i + 1) else 1000000)) → wpX_comingIn p ((nI m), b, t, rc, a1, a2, a3, a4, a5, a6, a7, a8, a9, a10, a11, a12, a13, a14, a15, a16, a17, a18, a19, f, a21) (nI i) (nI (cn_F s n A i)) (nI sz) := by
      intro p hp
      by_cases e : s ≤ i ∧ i ≤ s + n
      · rw [if_pos e] at hp
        rw [show cn_F s n A i = A i from if_pos e]
        exact HC i hi p hp
      · rw [if_neg e] at hp
        rw [show cn_F s n A i = 1000000 from if_neg e]
        exact cn_ciN rfl rfl (by omega) hp
    generalize (if s ≤ i ∧ i ≤ s + n then A (i + 1) else 1000000) = R at M RB ci
    have FBi := FB n (i + 1)
    refine pk_le m i (fun z => absurd z (by omega)) (fun _ => ⟨pk_in i 10 (by omega), pk_in (nd i) 6 b2 e2, ?_⟩)
    rw [e21]
    refine ci _ ⟨pk_in i 10 (by omega), pk_in i 10 (by omega), pk_in (nd (i + 1)) 6 b3 e3, ?_⟩
    refine pk_le (cn_F s n A (i + 1)) R (fun z => ⟨pk_in i 10 (by omega), pk_in (nd (i + 1)) 6 b3 e3, pk_in (nd (i + 1)) 6 b3 e3, nm_e (nm_r (nI_1 i) (hw _ (up _ ?_)))⟩) (fun z => ⟨pk_in (nd (i + 1)) 6 b3 e3, nm_e (nm_r (nI_1 i) (hw _ (up _ ?_)))⟩) e20 rfl (by omega) (by omega)
    · rw [e20, M.1 z]
    · rw [M.2 z]
theorem cn_s48 {post : St2 → Prop} {J : Int32 → (Nat → Int32) → (Nat → Int32) → (Nat → Int32) → (Nat → Int32) → (Nat → Int32) → (Nat → Int32) → (Nat → Int32) → (Nat → Int32) → (Nat → Int32) → (Nat → Int32) → (Nat → Int32) → (Nat → Int32) → (Nat → Int32) → (Nat → Int32) → (Nat → Int32) → (Nat → Int32) → (Nat → Int32) → (Nat → Int32) → (Nat → Int32) → (Nat → Int32) → (Nat → Int32) → Prop} {c b t rc : Int32} {a1 a2 a3 a4 a5 a6 a7 a8 a9 a10 a11 a12 a13 a14 a15 a16 a17 a18 a19 a20 a21 : Nat → Int32} {x3 x4 x5 : Int32} (H : ∀ g, (∀ v, v < 6 → g v = a20 v) → ∃ fu, wX_spread_78 post J x3 x4 x5 c b t rc fu 0 a1 a2 a3 a4 a5 a6 a7 a8 a9 a10 a11 a12 a13 a14 a15 a16 a17 a18 a19 a20 g) :
    ∃ fu, wX_spread_48 post J x3 x4 x5 c b t rc fu 0 a1 a2 a3 a4 a5 a6 a7 a8 a9 a10 a11 a12 a13 a14 a15 a16 a17 a18 a19 a20 a21 :=
  pk_loop (fun fu i g => wX_spread_48 post J x3 x4 x5 c b t rc fu (nI i) a1 a2 a3 a4 a5 a6 a7 a8 a9 a10 a11 a12 a13 a14 a15 a16 a17 a18 a19 a20 g) (fun i g => ∀ v, v < i → g v = a20 v) 6 0 a21 (by omega) (fun v hv => absurd hv (by omega))
    (fun n g h => pk_le 6 6 (fun _ => H g h) (fun z => absurd z (by omega)))
    (fun n i g hi h hw => pk_le 6 i (fun z => absurd z (by omega)) (fun _ => ⟨pk_in i 6 hi, pk_in i 6 hi, nm_e (nm_r (nI_1 i) (hw _ (cn_fill (nI_clamp (by omega)) h (by rw [nI_clamp (by omega)]))))⟩))
theorem cn_s38 {post : St2 → Prop} {c b t rc : Int32} {a1 a2 a3 a4 a5 a6 a7 a8 a9 a10 a11 a12 a13 a14 a15 a16 a17 a18 a19 a20 a21 : Nat → Int32} {m sz s most : Nat} {nd A : Nat → Nat} (hc : c = nI m) (N : cn_N m nd a2 a3) (hA : ∀ j, A j ≤ 1000000) (HC : cn_CI m sz A a1 a4 a5 a6 a7 a8) (hmo : most ≤ 1000)
    (h20 : cn_E m nd (cn_F s 0 A) a20) (H : ∀ f g, cn_E m nd (cn_F s most A) f → post (c, b, t, rc, a1, a2, a3, a4, a5, a6, a7, a8, a9, a10, a11, a12, a13, a14, a15, a16, a17, a18, a19, f, g)) : ∃ fu, wX_spread_38 post (nI sz) (nI most) c b t rc fu 0 a1 a2 a3 a4 a5 a6 a7 a8 a9 a10 a11 a12 a13 a14 a15 a16 a17 a18 a19 a20 a21 :=
  pk_loop (fun fu i (p : (Nat → Int32) × (Nat → Int32)) => wX_spread_38 post (nI sz) (nI most) c b t rc fu (nI i) a1 a2 a3 a4 a5 a6 a7 a8 a9 a10 a11 a12 a13 a14 a15 a16 a17 a18 a19 p.1 p.2) (fun i p => cn_E m nd (cn_F s i A) p.1) most 0 (a20, a21) (by omega) h20
    (fun n p h => pk_le most most (fun _ => H p.1 p.2 h) (fun z => absurd z (by omega)))
    (fun n i p hi h hw => pk_le most i (fun z => absurd z (by omega)) (fun _ => cn_s48 (fun g hg => cn_s78 hc N hA HC (fun j hj => by rw [hg _ (N.2.1 j)]; exact h.1 j hj) h (fun f hf x hx => by rw [hx, nI_1]; exact hw (f, g) hf))))
theorem cn_s3 {post : St2 → Prop} {c b t rc : Int32} {a1 a2 a3 a4 a5 a6 a7 a8 a9 a10 a11 a12 a13 a14 a15 a16 a17 a18 a19 a20 a21 : Nat → Int32} {s r : Nat} {x3 x4 : Int32} (hs : s < 6) (H : ∀ f, (∀ v, v < 6 → f v = if v = s then nI r else nI 1000000) → ∃ fu, wX_spread_38 post x3 x4 c b t rc fu 0 a1 a2 a3 a4 a5 a6 a7 a8 a9 a10 a11 a12 a13 a14 a15 a16 a17 a18 a19 f a21) :
    ∃ fu, wX_spread_3 post (nI s) (nI r) x3 x4 c b t rc fu 0 a1 a2 a3 a4 a5 a6 a7 a8 a9 a10 a11 a12 a13 a14 a15 a16 a17 a18 a19 a20 a21 :=
  pk_loop (fun fu i f => wX_spread_3 post (nI s) (nI r) x3 x4 c b t rc fu (nI i) a1 a2 a3 a4 a5 a6 a7 a8 a9 a10 a11 a12 a13 a14 a15 a16 a17 a18 a19 f a21) (fun i f => ∀ v, v < i → f v = if v = s then nI r else nI 1000000) 6 0 a20 (by omega) (fun v hv => absurd hv (by omega))
    (fun n f h => pk_le 6 6 (fun _ => H f h) (fun z => absurd z (by omega)))
    (fun n i f hi h hw => pk_le 6 i (fun z => absurd z (by omega)) (fun _ => pk_eq i s
      (fun z => ⟨pk_in i 6 hi, nm_e (nm_r (nI_1 i) (hw _ (cn_fill (f := fun v => if v = s then nI r else nI 1000000) (nI_clamp (by omega)) h (if_pos z).symm)))⟩)
      (fun z => ⟨pk_in i 6 hi, nm_e (nm_r (nI_1 i) (hw _ (cn_fill (f := fun v => if v = s then nI r else nI 1000000) (nI_clamp (by omega)) h (if_neg z).symm)))⟩)))
theorem cn_spread {post : St2 → Prop} {c b t rc : Int32} {a1 a2 a3 a4 a5 a6 a7 a8 a9 a10 a11 a12 a13 a14 a15 a16 a17 a18 a19 a20 a21 : Nat → Int32} {m sz s most : Nat} {nd A : Nat → Nat} {p0 p1 p2 p3 : Int32} (h0 : p0 = nI (nd s)) (h1 : p1 = nI (A s)) (h2 : p2 = nI sz) (h3 : p3 = nI most) (hc : c = nI m) (N : cn_N m nd a2 a3) (hA : ∀ j, A j ≤ 1000000) (HC : cn_CI m sz A a1 a4 a5 a6 a7 a8) (hs : s ≤ m) (hmo : most ≤ 1000)
    (H : ∀ f g, cn_E m nd (cn_F s most A) f → post (c, b, t, rc, a1, a2, a3, a4, a5, a6, a7, a8, a9, a10, a11, a12, a13, a14, a15, a16, a17, a18, a19, f, g)) : wpX_spread post (c, b, t, rc, a1, a2, a3, a4, a5, a6, a7, a8, a9, a10, a11, a12, a13, a14, a15, a16, a17, a18, a19, a20, a21) p0 p1 p2 p3 := by
  subst h0 h1 h2 h3
  have hm := N.1
  refine cn_s3 (N.2.1 s) (fun f hf => cn_s38 hc N hA HC hmo ⟨fun j hj => ?_, fun v hv ho => ?_⟩ H)
  · rw [hf _ (N.2.1 j)]
    by_cases e : j = s
    · rw [e, if_pos rfl, show cn_F s 0 A s = A s from if_pos ⟨by omega, by omega⟩]
    · rw [if_neg (fun z => e (N.2.2.1 j s (by omega) (by omega) z)), show cn_F s 0 A j = 1000000 from if_neg (by omega)]
  · rw [hf v hv, if_neg (ho s hs)]
end
section
/-! leadsOn, nextContact, findRoute -/
theorem cn_lo0 {post : Int32 → St2 → Prop} {c b t rc : Int32} {a1 a2 a3 a4 a5 a6 a7 a8 a9 a10 a11 a12 a13 a14 a15 a16 a17 a18 a19 a20 a21 : Nat → Int32} {k : Nat} {p0 p1 p2 p3 p4 p5 p6 : Int32} (h0 : p0 = nI k) (hk : k < 10) (h1 : ¬ a2 k = p1) (hp : post 0 (c, b, t, rc, a1, a2, a3, a4, a5, a6, a7, a8, a9, a10, a11, a12, a13, a14, a15, a16, a17, a18, a19, a20, a21)) : wpX_leadsOn post (c, b, t, rc, a1, a2, a3, a4, a5, a6, a7, a8, a9, a10, a11, a12, a13, a14, a15, a16, a17, a18, a19, a20, a21) p0 p1 p2 p3 p4 p5 p6 := by
  subst h0
  exact ⟨pk_in k 10 hk, br_f (by rw [nI_clamp (by omega)]; exact h1) hp⟩
theorem cn_lo1 {post : Int32 → St2 → Prop} {c b t rc : Int32} {a1 a2 a3 a4 a5 a6 a7 a8 a9 a10 a11 a12 a13 a14 a15 a16 a17 a18 a19 a20 a21 : Nat → Int32} {m sz i : Nat} {nd A : Nat → Nat} {p0 p1 p2 p3 p4 p5 p6 : Int32} (h0 : p0 = nI i) (h1 : p1 = nI (nd i)) (h2 : p2 = nI (nd m)) (h3 : p3 = nI (A i)) (h4 : p4 = nI sz) (h5 : p5 = nI (m - i)) (h6 : p6 = nI (A m))
    (hc : c = nI m) (N : cn_N m nd a2 a3) (hA : ∀ j, A j ≤ 1000000) (HC : cn_CI m sz A a1 a4 a5 a6 a7 a8) (hi : i < m) (hlt : A (i + 1) < 1000000) (hp : ∀ f g, post 1 (c, b, t, rc, a1, a2, a3, a4, a5, a6, a7, a8, a9, a10, a11, a12, a13, a14, a15, a16, a17, a18, a19, f, g)) : wpX_leadsOn post (c, b, t, rc, a1, a2, a3, a4, a5, a6, a7, a8, a9, a10, a11, a12, a13, a14, a15, a16, a17, a18, a19, a20, a21) p0 p1 p2 p3 p4 p5 p6 := by
  subst h0 h1 h2 h3 h4 h5 h6
  have hm := N.1
  have hAm := hA m
  have e2 : a2 (nI i).toNatClampNeg = nI (nd i) := cn_at rfl (by omega) (N.2.2.2 i hi).1
  have e3 : a3 (nI i).toNatClampNeg = nI (nd (i + 1)) := cn_at rfl (by omega) (N.2.2.2 i hi).2
  have b6 := N.2.1 m
  refine ⟨pk_in i 10 (by omega), br_t e2 (HC i hi _ ?_)⟩
  refine pk_lt (A (i + 1)) 1000000 (fun _ => ⟨pk_in i 10 (by omega), ?_⟩) (fun z => absurd z (by omega))
  refine cn_spread (s := i + 1) (most := m - i - 1) e3 rfl rfl (cn_pr (by omega)) hc N hA HC (by omega) (by omega) (fun f g h => ?_)
  have e : f (nI (nd m)).toNatClampNeg = nI (A m) := by
    refine cn_at rfl (by omega) ?_
    rw [h.1 m (Nat.le_refl m), show cn_F (i + 1) (m - i - 1) A m = A m from if_pos ⟨by omega, by omega⟩]
  exact ⟨pk_in (nd m) 6 b6, pk_lt (A m) (A m) (fun z => absurd z (by omega)) (fun _ => hp f g) rfl e⟩
theorem cn_nc {post : Int32 → St2 → Prop} {c b t rc : Int32} {a1 a2 a3 a4 a5 a6 a7 a8 a9 a10 a11 a12 a13 a14 a15 a16 a17 a18 a19 a20 a21 : Nat → Int32} {m sz i : Nat} {nd A : Nat → Nat} {p0 p1 p2 p3 p4 p5 : Int32} (h1 : p0 = nI (nd i)) (h2 : p1 = nI (nd m)) (h3 : p2 = nI (A i)) (h4 : p3 = nI sz) (h5 : p4 = nI (m - i)) (h6 : p5 = nI (A m))
    (hc : c = nI m) (N : cn_N m nd a2 a3) (hA : ∀ j, A j ≤ 1000000) (HC : cn_CI m sz A a1 a4 a5 a6 a7 a8) (hi : i < m) (hlt : A (i + 1) < 1000000) (hp : ∀ f g, post (nI i) (c, b, t, rc, a1, a2, a3, a4, a5, a6, a7, a8, a9, a10, a11, a12, a13, a14, a15, a16, a17, a18, a19, f, g)) : wpX_nextContact post (c, b, t, rc, a1, a2, a3, a4, a5, a6, a7, a8, a9, a10, a11, a12, a13, a14, a15, a16, a17, a18, a19, a20, a21) p0 p1 p2 p3 p4 p5 := by
  subst h1 h2 h3 h4 h5 h6
  have hm := N.1
  have hcm : c - 1 = nI (m - 1) := by rw [hc, cn_pr (by omega)]
  exact pk_loop (σ := Unit) (fun n k _ => wX_nextContact_3 post (nI (nd i)) (nI (nd m)) (nI (A i)) (nI sz) (nI (m - i)) (nI (A m)) n (nI k) c b t rc a1 a2 a3 a4 a5 a6 a7 a8 a9 a10 a11 a12 a13 a14 a15 a16 a17 a18 a19 a20 a21) (fun _ _ => True) i 0 () (by omega) trivial
    (fun n _ _ => pk_le (m - 1) i (fun _ => hp a20 a21) (fun z => cn_lo1 rfl rfl rfl rfl rfl rfl rfl hc N hA HC hi hlt (fun f g => br_f (by decide) (hp f g))) hcm)
    (fun n k _ hk _ hw => pk_le (m - 1) k (fun z => absurd z (by omega)) (fun _ => cn_lo0 rfl (by omega) (fun z => by
      rw [(N.2.2.2 k (by omega)).1] at z
      have b1 := N.2.1 k
      have b2 := N.2.1 i
      have := N.2.2.1 k i (by omega) (by omega) ((nI_eq (by omega) (by omega)).mp z)
      omega) (br_t rfl (nm_r (nI_1 k) (hw () trivial)))) hcm)
theorem cn_fr88 {post : Int32 → St2 → Prop} {c b t : Int32} {a1 a2 a3 a4 a5 a6 a7 a8 a9 a10 a11 a12 a13 a14 a15 a16 a17 a18 a19 a20 a21 : Nat → Int32} {m sz : Nat} {nd A B rt dl : Nat → Nat}
    (hc : c = nI m) (N : cn_N m nd a2 a3) (hA : ∀ j, A j ≤ 1000000) (HC : cn_CI m sz A a1 a4 a5 a6 a7 a8) (FB : cn_FB m A (cn_nx sz rt) B a4 a5 a8) (h6 : ∀ k, k < m → a6 k = nI (rt k)) (h7 : ∀ k, k < m → a7 k = nI (dl k)) (hr : ∀ k, 1 ≤ rt k ∧ rt k ≤ 8) (hz : sz ≤ 30)
    (hlt : ∀ j, j ≤ m → A j < 1000000) (hAS : ∀ k, k < m → A (k + 1) = B k + cn_nx sz rt k + dl k)
    (H : ∀ f18 f19 f g, (∀ j, j < m → f18 j = nI j) → (∀ j, j < m → f19 j = nI (B j)) → post (nI (A m)) (c, b, t, (nI m), a1, a2, a3, a4, a5, a6, a7, a8, a9, a10, a11, a12, a13, a14, a15, a16, a17, f18, f19, f, g)) :
    ∃ fu, wX_findRoute_88 post (nI (nd m)) (nI sz) (nI (A m)) fu (nI (nd 0)) (nI (A 0)) (nI m) c b t 0 a1 a2 a3 a4 a5 a6 a7 a8 a9 a10 a11 a12 a13 a14 a15 a16 a17 a18 a19 a20 a21 := by
  have hm := N.1
  refine pk_loop (fun n i (p : (Nat → Int32) × (Nat → Int32) × (Nat → Int32) × (Nat → Int32)) => wX_findRoute_88 post (nI (nd m)) (nI sz) (nI (A m)) n (nI (nd i)) (nI (A i)) (nI (m - i)) c b t (nI i) a1 a2 a3 a4 a5 a6 a7 a8 a9 a10 a11 a12 a13 a14 a15 a16 a17 p.1 p.2.1 p.2.2.1 p.2.2.2)
    (fun i p => (∀ j, j < i → p.1 j = nI j) ∧ ∀ j, j < i → p.2.1 j = nI (B j)) m 0 (a18, a19, a20, a21) (by omega) ⟨fun j hj => absurd hj (by omega), fun j hj => absurd hj (by omega)⟩ ?_ ?_
  · intro n p h
    exact pk_le (m - m) 0 (fun _ => H p.1 p.2.1 p.2.2.1 p.2.2.2 h.1 h.2) (fun z => absurd z (by omega))
  · intro n i p hi h hw
    have e3 : a3 (nI i).toNatClampNeg = nI (nd (i + 1)) := cn_at rfl (by omega) (N.2.2.2 i hi).2
    have e7 : a7 (nI i).toNatClampNeg = nI (dl i) := cn_at rfl (by omega) (h7 i hi)
    have e9 : nI (m - i) + (-1) = nI (m - (i + 1)) := by rw [sb_m1 (by omega), Nat.sub_sub]
    refine pk_le (m - i) 0 (fun z => absurd z (by omega)) (fun _ => ?_)
    refine cn_nc rfl rfl rfl rfl rfl rfl hc N hA HC hi (hlt _ (by omega)) (fun f g => ?_)
    refine cn_tk rfl rfl (by omega) (h6 i hi) (hr i) hz ⟨pk_in i 5 (by omega), nm_e ?_⟩
    refine FB i hi _ ⟨pk_in i 5 (by omega), nm_e ⟨pk_in i 5 (by omega), pk_in i 10 (by omega), nm_r (e' := nI (A (i + 1))) ?_ ⟨pk_in i 10 (by omega), nm_r e3 (nm_r (nI_1 i) (nm_r e9 ?_))⟩⟩⟩
    · rw [pk_us, e7, nI_add, nI_add, ← hAS i hi]
    · exact hw (upd p.1 (nI i).toNatClampNeg (nI i), upd p.2.1 (nI i).toNatClampNeg (nI (B i)), f, g) ⟨cn_fill (f := fun j => nI j) (nI_clamp (by omega)) h.1 rfl, cn_fill (f := fun j => nI (B j)) (nI_clamp (by omega)) h.2 rfl⟩
/-- there is a route: it is the path -/
theorem cn_fr1 {post : Int32 → St2 → Prop} {c b t rc : Int32} {a1 a2 a3 a4 a5 a6 a7 a8 a9 a10 a11 a12 a13 a14 a15 a16 a17 a18 a19 a20 a21 : Nat → Int32} {m sz : Nat} {nd A B rt dl : Nat → Nat} {p0 p1 p2 p3 : Int32} (g0 : p0 = nI (nd 0)) (g1 : p1 = nI (nd m)) (g2 : p2 = nI (A 0)) (g3 : p3 = nI sz) (hm1 : 1 ≤ m)
    (hc : c = nI m) (N : cn_N m nd a2 a3) (hA : ∀ j, A j ≤ 1000000) (HC : cn_CI m sz A a1 a4 a5 a6 a7 a8) (FB : cn_FB m A (cn_nx sz rt) B a4 a5 a8) (h6 : ∀ k, k < m → a6 k = nI (rt k)) (h7 : ∀ k, k < m → a7 k = nI (dl k)) (hr : ∀ k, 1 ≤ rt k ∧ rt k ≤ 8) (hz : sz ≤ 30)
    (hlt : ∀ j, j ≤ m → A j < 1000000) (hAS : ∀ k, k < m → A (k + 1) = B k + cn_nx sz rt k + dl k)
    (H : ∀ f18 f19 f g, (∀ j, j < m → f18 j = nI j) → (∀ j, j < m → f19 j = nI (B j)) → post (nI (A m)) (c, b, t, (nI m), a1, a2, a3, a4, a5, a6, a7, a8, a9, a10, a11, a12, a13, a14, a15, a16, a17, f18, f19, f, g)) : wpX_findRoute post (c, b, t, rc, a1, a2, a3, a4, a5, a6, a7, a8, a9, a10, a11, a12, a13, a14, a15, a16, a17, a18, a19, a20, a21) p0 p1 p2 p3 := by
  subst g0 g1 g2 g3
  have hm := N.1
  have b6 := N.2.1 m
  have hAm := hlt m (Nat.le_refl m)
  refine cn_spread (s := 0) (most := 5) rfl rfl rfl rfl hc N hA HC (by omega) (by omega) (fun f g h => ?_)
  have e : f (nI (nd m)).toNatClampNeg = nI (A m) := by
    refine cn_at rfl (by omega) ?_
    rw [h.1 m (Nat.le_refl m), show cn_F 0 5 A m = A m from if_pos ⟨by omega, by omega⟩]
  refine ⟨pk_in (nd m) 6 b6, nm_r e (pk_lt (A m) 1000000 (fun _ => ?_) (fun z => absurd z (by omega)))⟩
  refine cn_spread (s := 0) (most := 1) rfl rfl rfl rfl hc N hA HC (by omega) (by omega) (fun f' g' h' => ?_)
  have go : ∀ f g, wX_findRoute_73 post (nI (nd 0)) (nI (nd m)) (nI (A 0)) (nI sz) (nI (A m)) (nI m) c b t rc a1 a2 a3 a4 a5 a6 a7 a8 a9 a10 a11 a12 a13 a14 a15 a16 a17 a18 a19 f g :=
    fun f g => cn_fr88 hc N hA HC FB h6 h7 hr hz hlt hAS H
  refine pk_loop (fun n l (p : (Nat → Int32) × (Nat → Int32)) => wX_findRoute_40 post (nI (nd 0)) (nI (nd m)) (nI (A 0)) (nI sz) (nI (A m)) n (nI l) c b t rc a1 a2 a3 a4 a5 a6 a7 a8 a9 a10 a11 a12 a13 a14 a15 a16 a17 a18 a19 p.1 p.2) (fun l p => cn_E m nd (cn_F 0 l A) p.1) m 1 (f', g') hm1 h' ?_ ?_
  · intro n p hE
    have e : p.1 (nI (nd m)).toNatClampNeg = nI (A m) := by
      refine cn_at rfl (by omega) ?_
      rw [hE.1 m (Nat.le_refl m), show cn_F 0 m A m = A m from if_pos ⟨by omega, by omega⟩]
    exact pk_le 5 m (fun _ => go _ _) (fun _ => ⟨pk_in (nd m) 6 b6, pk_le (A m) (A m) (fun _ => go _ _) (fun z => absurd z (by omega)) e⟩)
  · intro n l p hl hE hw
    have e : p.1 (nI (nd m)).toNatClampNeg = nI 1000000 := by
      refine cn_at rfl (by omega) ?_
      rw [hE.1 m (Nat.le_refl m), show cn_F 0 l A m = 1000000 from if_neg (by omega)]
    exact pk_le 5 l (fun z => absurd z (by omega)) (fun _ => ⟨pk_in (nd m) 6 b6, pk_le 1000000 (A m) (fun z => absurd z (by omega)) (fun _ => nm_r (nI_1 l) (cn_spread (s := 0) (most := l + 1) rfl rfl rfl rfl hc N hA HC (by omega) (by omega) (fun f g h => hw (f, g) h))) e⟩)
/-- there is none -/
theorem cn_fr0 {post : Int32 → St2 → Prop} {c b t rc : Int32} {a1 a2 a3 a4 a5 a6 a7 a8 a9 a10 a11 a12 a13 a14 a15 a16 a17 a18 a19 a20 a21 : Nat → Int32} {m sz : Nat} {nd A : Nat → Nat} {p0 p1 p2 p3 : Int32} (g0 : p0 = nI (nd 0)) (g1 : p1 = nI (nd m)) (g2 : p2 = nI (A 0)) (g3 : p3 = nI sz)
    (hc : c = nI m) (N : cn_N m nd a2 a3) (hA : ∀ j, A j ≤ 1000000) (HC : cn_CI m sz A a1 a4 a5 a6 a7 a8) (hN : A m = 1000000)
    (H : ∀ f g, post (nI 1000000) (c, b, t, rc, a1, a2, a3, a4, a5, a6, a7, a8, a9, a10, a11, a12, a13, a14, a15, a16, a17, a18, a19, f, g)) : wpX_findRoute post (c, b, t, rc, a1, a2, a3, a4, a5, a6, a7, a8, a9, a10, a11, a12, a13, a14, a15, a16, a17, a18, a19, a20, a21) p0 p1 p2 p3 := by
  subst g0 g1 g2 g3
  have hm := N.1
  have b6 := N.2.1 m
  refine cn_spread (s := 0) (most := 5) rfl rfl rfl rfl hc N hA HC (by omega) (by omega) (fun f g h => ?_)
  have e : f (nI (nd m)).toNatClampNeg = nI 1000000 := by
    refine cn_at rfl (by omega) ?_
    rw [h.1 m (Nat.le_refl m), show cn_F 0 5 A m = A m from if_pos ⟨by omega, by omega⟩, hN]
  exact ⟨pk_in (nd m) 6 b6, nm_r e (pk_lt 1000000 1000000 (fun z => absurd z (by omega)) (fun _ => H f g))⟩
end
section
/-! setBusy, plan, retry, send -/
theorem cn_nb1 : vp_nar .boolean 1 = 1 := by decide
theorem cn_nb0 : vp_nar .boolean 0 = 0 := by decide
theorem cn_up {f : Nat → Int32} {x v w : Int32} {k : Nat} (hx : x = nI k) (hv : v = w) (hk : k < 2 ^ 31 := by omega) : upd f x.toNatClampNeg v = upd f k w := by
  rw [hx, nI_clamp hk, hv]
theorem cn_sb {post : St2 → Prop} {c b t rc : Int32} {a1 a2 a3 a4 a5 a6 a7 a8 a9 a10 a11 a12 a13 a14 a15 a16 a17 a18 a19 a20 a21 : Nat → Int32} {k b0 q : Nat} {p0 p1 p2 p3 : Int32} (h0 : p0 = nI k) (h1 : p1 = nI b0) (h2 : p2 = nI q) (h3 : p3 = 1) (hk : k < 10) (hb : b0 + q ≤ 101)
    (H : ∀ h, (∀ j, h j = if 101 * k + b0 ≤ j ∧ j < 101 * k + (b0 + q) then 1 else a8 j) → post (c, b, t, rc, a1, a2, a3, a4, a5, a6, a7, h, a9, a10, a11, a12, a13, a14, a15, a16, a17, a18, a19, a20, a21)) : wpX_setBusy post (c, b, t, rc, a1, a2, a3, a4, a5, a6, a7, a8, a9, a10, a11, a12, a13, a14, a15, a16, a17, a18, a19, a20, a21) p0 p1 p2 p3 := by
  subst h0 h1 h2 h3
  have e : nI b0 + nI q = nI (b0 + q) := nI_add _ _
  refine pk_loop (fun n i h => wX_setBusy_3 post (nI k) (nI b0) (nI q) 1 c b t rc n (nI i) a1 a2 a3 a4 a5 a6 a7 h a9 a10 a11 a12 a13 a14 a15 a16 a17 a18 a19 a20 a21) (fun i h => b0 ≤ i ∧ ∀ j, h j = if 101 * k + b0 ≤ j ∧ j < 101 * k + i then 1 else a8 j) (b0 + q) b0 a8 (by omega) ⟨Nat.le_refl _, fun j => (if_neg (by omega)).symm⟩ ?_ ?_
  · intro n h hh
    exact pk_le (b0 + q) (b0 + q) (fun _ => H h hh.2) (fun z => absurd z (by omega)) e
  · intro n i h hi hh hw
    have h1 := hh.1
    refine pk_le (b0 + q) i (fun z => absurd z (by omega)) (fun _ => ⟨pk_in (101 * k + i) 1010 (by omega) (cn_101 k i), nm_r (cn_up (cn_101 k i) cn_nb1) (nm_r (nI_1 i) (hw _ ⟨by omega, fun j => ?_⟩))⟩) e
    by_cases ej : j = 101 * k + i
    · rw [ej, pk_us, if_pos ⟨by omega, by omega⟩]
    · rw [pk_un ej, hh.2 j]
      by_cases g : 101 * k + b0 ≤ j ∧ j < 101 * k + i
      · rw [if_pos g, if_pos ⟨g.1, by omega⟩]
      · rw [if_neg g, if_neg (by omega)]
theorem cn_ln0 {post : Int32 → Prop} {c b t rc : Int32} {a1 a2 a3 a4 a5 a6 a7 a8 a9 a10 a11 a12 a13 a14 a15 a16 a17 a18 a19 a20 a21 : Nat → Int32} {bd : Nat} {p0 : Int32} (h0 : p0 = nI bd) (hbd : bd < 10) (h15 : a15 bd = nI 0) (hp : post (a9 bd)) : wpX_lastNode post (c, b, t, rc, a1, a2, a3, a4, a5, a6, a7, a8, a9, a10, a11, a12, a13, a14, a15, a16, a17, a18, a19, a20, a21) p0 := by
  subst h0
  refine ⟨pk_in bd 10 hbd, br_t (cn_at rfl (by omega) h15) ⟨pk_in bd 10 hbd, ?_⟩⟩
  rw [nI_clamp (by omega)]
  exact hp
/-- what the bookings of bundle bd look like -/
def cn_Hop (m bd : Nat) (B : Nat → Nat) (f15 f16 f17 a15 : Nat → Int32) : Prop :=
  f15 bd = nI m ∧ (∀ j, j ≠ bd → f15 j = a15 j) ∧ (∀ j, j < m → f16 (100 * bd + j) = nI j) ∧ ∀ j, j < m → f17 (100 * bd + j) = nI (B j)
/-- what the busy table looks like -/
def cn_Bsy (m sz : Nat) (B rt : Nat → Nat) (h8 a8 : Nat → Int32) : Prop :=
  ∀ k, k < 10 → ∀ j, j < 101 → h8 (101 * k + j) = if k < m ∧ B k ≤ j ∧ j < B k + cn_nx sz rt k then 1 else a8 (101 * k + j)
theorem cn_pl138 {post : St2 → Prop} {c b t : Int32} {a1 a2 a3 a4 a5 a6 a7 a8 a9 a10 a11 a12 a13 a14 a15 a16 a17 a18 a19 a20 a21 : Nat → Int32} {m sz bd : Nat} {B rt : Nat → Nat} (hbd : bd < 10) (hm : m ≤ 5) (hz : sz ≤ 30) (h6 : ∀ k, k < m → a6 k = nI (rt k)) (hr : ∀ k, 1 ≤ rt k ∧ rt k ≤ 8) (h11 : a11 bd = nI sz) (h15 : a15 bd = nI 0)
    (h18 : ∀ j, j < m → a18 j = nI j) (h19 : ∀ j, j < m → a19 j = nI (B j)) (hB : ∀ k, k < m → B k + cn_nx sz rt k ≤ 100)
    (H : ∀ h8 f15 f16 f17, cn_Bsy m sz B rt h8 a8 → cn_Hop m bd B f15 f16 f17 a15 → post (c, b, t, (nI m), a1, a2, a3, a4, a5, a6, a7, h8, a9, a10, a11, a12, a13, a14, f15, f16, f17, a18, a19, a20, a21)) : ∃ fu, wX_plan_138 post (nI bd) fu 0 c b t (nI m) a1 a2 a3 a4 a5 a6 a7 a8 a9 a10 a11 a12 a13 a14 a15 a16 a17 a18 a19 a20 a21 := by
  refine pk_loop (fun n i (p : (Nat → Int32) × (Nat → Int32) × (Nat → Int32) × (Nat → Int32)) => wX_plan_138 post (nI bd) n (nI i) c b t (nI m) a1 a2 a3 a4 a5 a6 a7 p.1 a9 a10 a11 a12 a13 a14 p.2.1 p.2.2.1 p.2.2.2 a18 a19 a20 a21)
    (fun i p => cn_Bsy i sz B rt p.1 a8 ∧ cn_Hop i bd B p.2.1 p.2.2.1 p.2.2.2 a15) m 0 (a8, a15, a16, a17) (by omega) ⟨fun k hk j hj => (if_neg (fun z => absurd z.1 (by omega))).symm, h15, fun j hj => rfl, fun j hj => absurd hj (by omega), fun j hj => absurd hj (by omega)⟩ ?_ ?_
  · intro n p h
    exact pk_le m m (fun _ => H p.1 p.2.1 p.2.2.1 p.2.2.2 h.1 h.2) (fun z => absurd z (by omega))
  · intro n i p hi h hw
    obtain ⟨k8, k15, k15', k16, k17⟩ := h
    have e15 : p.2.1 (nI bd).toNatClampNeg = nI i := cn_at rfl (by omega) k15
    have e18 : a18 (nI i).toNatClampNeg = nI i := cn_at rfl (by omega) (h18 i hi)
    have e19 : a19 (nI i).toNatClampNeg = nI (B i) := cn_at rfl (by omega) (h19 i hi)
    have e11 : a11 (nI bd).toNatClampNeg = nI sz := cn_at rfl (by omega) h11
    have eix : 100 * nI bd + p.2.1 (nI bd).toNatClampNeg = nI (100 * bd + i) := by rw [e15, cn_100]
    have hBi := hB i hi
    have hx : p.2.1 (nI bd).toNatClampNeg + 1 = nI (i + 1) := by rw [e15, nI_1]
    refine pk_le m i (fun z => absurd z (by omega)) (fun _ => ⟨pk_in bd 10 hbd, pk_le 100 i (fun z => absurd z (by omega)) (fun _ => ?_) rfl e15⟩)
    refine ⟨pk_in i 5 (by omega), nm_r e18 ⟨pk_in bd 10 hbd, pk_in (100 * bd + i) 1000 (by omega) eix, nm_r (cn_up eix rfl) ⟨pk_in bd 10 hbd, pk_in i 5 (by omega), pk_in (100 * bd + i) 1000 (by omega) eix, nm_r (cn_up eix e19) ⟨pk_in bd 10 hbd, pk_in bd 10 hbd, nm_r (cn_up rfl hx) ⟨pk_in bd 10 hbd, ?_⟩⟩⟩⟩⟩
    refine cn_tk rfl e11 (by omega) (h6 i hi) (hr i) hz ⟨pk_in i 5 (by omega), ?_⟩
    refine cn_sb rfl e19 rfl rfl (by omega) (by omega) (fun h hh => nm_r (nI_1 i) (hw (h, upd p.2.1 bd (nI (i + 1)), upd p.2.2.1 (100 * bd + i) (nI i), upd p.2.2.2 (100 * bd + i) (nI (B i))) ⟨?_, ?_, ?_, ?_, ?_⟩))
    · intro k hk j hj
      show h (101 * k + j) = _
      rw [hh, k8 k hk j hj]
      by_cases ek : k = i
      · subst ek
        by_cases g : B k ≤ j ∧ j < B k + cn_nx sz rt k
        · rw [if_pos (by omega), if_pos ⟨by omega, g⟩]
        · rw [if_neg (by omega), if_neg (fun z => absurd z.1 (by omega)), if_neg (fun z => g z.2)]
      · rw [if_neg (by omega)]
        by_cases g : k < i ∧ B k ≤ j ∧ j < B k + cn_nx sz rt k
        · rw [if_pos g, if_pos ⟨by omega, g.2⟩]
        · rw [if_neg g, if_neg (fun z => g ⟨by omega, z.2⟩)]
    · exact pk_us
    · intro j hj
      show upd p.2.1 bd (nI (i + 1)) j = _
      rw [pk_un hj]
      exact k15' j hj
    · intro j hj
      show upd p.2.2.1 (100 * bd + i) (nI i) (100 * bd + j) = _
      by_cases ej : j = i
      · rw [ej, pk_us]
      · rw [pk_un (by omega)]
        exact k16 j (by omega)
    · intro j hj
      show upd p.2.2.2 (100 * bd + i) (nI (B i)) (100 * bd + j) = _
      by_cases ej : j = i
      · rw [ej, pk_us]
      · rw [pk_un (by omega)]
        exact k17 j (by omega)
/-- a bundle without bookings is planned: no route -/
theorem cn_pl0 {post : St2 → Prop} {c b t rc : Int32} {a1 a2 a3 a4 a5 a6 a7 a8 a9 a10 a11 a12 a13 a14 a15 a16 a17 a18 a19 a20 a21 : Nat → Int32} {m sz bd : Nat} {nd A : Nat → Nat} {p0 : Int32} (h0 : p0 = nI bd) (hbd : bd < 10) (h15 : a15 bd = nI 0) (h9 : a9 bd = nI (nd 0)) (h10 : a10 bd = nI (nd m)) (h11 : a11 bd = nI sz) (hm1 : 1 ≤ m)
    (ht : t = nI (A 0)) (hc : c = nI m) (N : cn_N m nd a2 a3) (hA : ∀ j, A j ≤ 1000000) (HC : cn_CI m sz A a1 a4 a5 a6 a7 a8) (hN : A m = 1000000)
    (H : ∀ f g, post (c, b, t, rc, a1, a2, a3, a4, a5, a6, a7, a8, a9, a10, a11, a12, (upd a13 bd 0), a14, a15, a16, a17, a18, a19, f, g)) : wpX_plan post (c, b, t, rc, a1, a2, a3, a4, a5, a6, a7, a8, a9, a10, a11, a12, a13, a14, a15, a16, a17, a18, a19, a20, a21) p0 := by
  subst h0
  have e15 : a15 (nI bd).toNatClampNeg = nI 0 := cn_at rfl (by omega) h15
  have e10 : a10 (nI bd).toNatClampNeg = nI (nd m) := cn_at rfl (by omega) h10
  have e11 : a11 (nI bd).toNatClampNeg = nI sz := cn_at rfl (by omega) h11
  have b0 := N.2.1 0
  have bm := N.2.1 m
  have hm := N.1
  have hne : nd 0 ≠ nd m := fun z => absurd (N.2.2.1 0 m (by omega) (by omega) z) (by omega)
  refine ⟨pk_in bd 10 hbd, pk_le 0 0 (fun _ => ?_) (fun z => absurd z (by omega)) e15⟩
  unfold wX_plan_45
  refine cn_ln0 rfl hbd h15 ⟨pk_in bd 10 hbd, nm_r (cn_up rfl rfl) ⟨pk_in bd 10 hbd, pk_eq (nd 0) (nd m) (fun z => absurd z hne) (fun _ => ⟨pk_in bd 10 hbd, pk_in bd 10 hbd, ?_⟩) h9 e10⟩⟩
  exact cn_fr0 h9 e10 ht e11 hc N hA HC hN (fun f g => pk_le 1000000 1000000 (fun _ => H f g) (fun z => absurd z (by omega)))
/-- .. a route, but too late -/
theorem cn_pl1 {post : St2 → Prop} {c b t rc : Int32} {a1 a2 a3 a4 a5 a6 a7 a8 a9 a10 a11 a12 a13 a14 a15 a16 a17 a18 a19 a20 a21 : Nat → Int32} {m sz bd lim : Nat} {nd A B rt dl : Nat → Nat} {p0 : Int32} (h0 : p0 = nI bd) (hbd : bd < 10) (h15 : a15 bd = nI 0) (h9 : a9 bd = nI (nd 0)) (h10 : a10 bd = nI (nd m)) (h11 : a11 bd = nI sz) (h12 : a12 bd = nI lim) (hm1 : 1 ≤ m)
    (ht : t = nI (A 0)) (hc : c = nI m) (N : cn_N m nd a2 a3) (hA : ∀ j, A j ≤ 1000000) (HC : cn_CI m sz A a1 a4 a5 a6 a7 a8) (FB : cn_FB m A (cn_nx sz rt) B a4 a5 a8) (h6 : ∀ k, k < m → a6 k = nI (rt k)) (h7 : ∀ k, k < m → a7 k = nI (dl k)) (hr : ∀ k, 1 ≤ rt k ∧ rt k ≤ 8) (hz : sz ≤ 30)
    (hlt : ∀ j, j ≤ m → A j < 1000000) (hAS : ∀ k, k < m → A (k + 1) = B k + cn_nx sz rt k + dl k) (hlim : lim < A m)
    (H : ∀ f18 f19 f g, post (c, b, t, (nI m), a1, a2, a3, a4, a5, a6, a7, a8, a9, a10, a11, a12, (upd a13 bd 0), a14, a15, a16, a17, f18, f19, f, g)) : wpX_plan post (c, b, t, rc, a1, a2, a3, a4, a5, a6, a7, a8, a9, a10, a11, a12, a13, a14, a15, a16, a17, a18, a19, a20, a21) p0 := by
  subst h0
  have e15 : a15 (nI bd).toNatClampNeg = nI 0 := cn_at rfl (by omega) h15
  have e10 : a10 (nI bd).toNatClampNeg = nI (nd m) := cn_at rfl (by omega) h10
  have e11 : a11 (nI bd).toNatClampNeg = nI sz := cn_at rfl (by omega) h11
  have e12 : a12 (nI bd).toNatClampNeg = nI lim := cn_at rfl (by omega) h12
  have b0 := N.2.1 0
  have bm := N.2.1 m
  have hm := N.1
  have hAm := hlt m (Nat.le_refl m)
  have hne : nd 0 ≠ nd m := fun z => absurd (N.2.2.1 0 m (by omega) (by omega) z) (by omega)
  refine ⟨pk_in bd 10 hbd, pk_le 0 0 (fun _ => ?_) (fun z => absurd z (by omega)) e15⟩
  unfold wX_plan_45
  refine cn_ln0 rfl hbd h15 ⟨pk_in bd 10 hbd, nm_r (cn_up rfl rfl) ⟨pk_in bd 10 hbd, pk_eq (nd 0) (nd m) (fun z => absurd z hne) (fun _ => ⟨pk_in bd 10 hbd, pk_in bd 10 hbd, ?_⟩) h9 e10⟩⟩
  exact cn_fr1 h9 e10 ht e11 hm1 hc N hA HC FB h6 h7 hr hz hlt hAS (fun f18 f19 f g _ _ => pk_le 1000000 (A m) (fun z => absurd z (by omega)) (fun _ => ⟨pk_in bd 10 hbd, pk_le (A m) lim (fun z => absurd z (by omega)) (fun _ => H f18 f19 f g) rfl e12⟩))
/-- .. a route in time: it is booked -/
theorem cn_pl2 {post : St2 → Prop} {c b t rc : Int32} {a1 a2 a3 a4 a5 a6 a7 a8 a9 a10 a11 a12 a13 a14 a15 a16 a17 a18 a19 a20 a21 : Nat → Int32} {m sz bd lim : Nat} {nd A B rt dl : Nat → Nat} {p0 : Int32} (h0 : p0 = nI bd) (hbd : bd < 10) (h15 : a15 bd = nI 0) (h9 : a9 bd = nI (nd 0)) (h10 : a10 bd = nI (nd m)) (h11 : a11 bd = nI sz) (h12 : a12 bd = nI lim) (hm1 : 1 ≤ m)
    (ht : t = nI (A 0)) (hc : c = nI m) (N : cn_N m nd a2 a3) (hA : ∀ j, A j ≤ 1000000) (HC : cn_CI m sz A a1 a4 a5 a6 a7 a8) (FB : cn_FB m A (cn_nx sz rt) B a4 a5 a8) (h6 : ∀ k, k < m → a6 k = nI (rt k)) (h7 : ∀ k, k < m → a7 k = nI (dl k)) (hr : ∀ k, 1 ≤ rt k ∧ rt k ≤ 8) (hz : sz ≤ 30)
    (hlt : ∀ j, j ≤ m → A j < 1000000) (hAS : ∀ k, k < m → A (k + 1) = B k + cn_nx sz rt k + dl k) (hB : ∀ k, k < m → B k + cn_nx sz rt k ≤ 100) (hlim : A m ≤ lim) (hlim2 : lim < 2 ^ 31)
    (H : ∀ h8 f15 f16 f17 f18 f19 f g, cn_Bsy m sz B rt h8 a8 → cn_Hop m bd B f15 f16 f17 a15 → post (c, b, t, (nI m), a1, a2, a3, a4, a5, a6, a7, h8, a9, a10, a11, a12, (upd (upd a13 bd 0) bd 1), a14, f15, f16, f17, f18, f19, f, g)) : wpX_plan post (c, b, t, rc, a1, a2, a3, a4, a5, a6, a7, a8, a9, a10, a11, a12, a13, a14, a15, a16, a17, a18, a19, a20, a21) p0 := by
  subst h0
  have e15 : a15 (nI bd).toNatClampNeg = nI 0 := cn_at rfl (by omega) h15
  have e10 : a10 (nI bd).toNatClampNeg = nI (nd m) := cn_at rfl (by omega) h10
  have e11 : a11 (nI bd).toNatClampNeg = nI sz := cn_at rfl (by omega) h11
  have e12 : a12 (nI bd).toNatClampNeg = nI lim := cn_at rfl (by omega) h12
  have b0 := N.2.1 0
  have bm := N.2.1 m
  have hm := N.1
  have hAm := hlt m (Nat.le_refl m)
  have hne : nd 0 ≠ nd m := fun z => absurd (N.2.2.1 0 m (by omega) (by omega) z) (by omega)
  refine ⟨pk_in bd 10 hbd, pk_le 0 0 (fun _ => ?_) (fun z => absurd z (by omega)) e15⟩
  unfold wX_plan_45
  refine cn_ln0 rfl hbd h15 ⟨pk_in bd 10 hbd, nm_r (cn_up rfl rfl) ⟨pk_in bd 10 hbd, pk_eq (nd 0) (nd m) (fun z => absurd z hne) (fun _ => ⟨pk_in bd 10 hbd, pk_in bd 10 hbd, ?_⟩) h9 e10⟩⟩
  exact cn_fr1 h9 e10 ht e11 hm1 hc N hA HC FB h6 h7 hr hz hlt hAS (fun f18 f19 f g k18 k19 => pk_le 1000000 (A m) (fun z => absurd z (by omega)) (fun _ => ⟨pk_in bd 10 hbd, pk_le (A m) lim (fun _ => ⟨pk_in bd 10 hbd, nm_r (cn_up rfl rfl) (cn_pl138 hbd hm hz h6 hr h11 h15 k18 k19 hB (fun h8 f15 f16 f17 q8 q => H h8 f15 f16 f17 f18 f19 f g q8 q))⟩) (fun z => absurd z (by omega)) rfl e12⟩))
/-- retry without bundles -/
theorem cn_rt0 {post : St2 → Prop} {c b t rc : Int32} {a1 a2 a3 a4 a5 a6 a7 a8 a9 a10 a11 a12 a13 a14 a15 a16 a17 a18 a19 a20 a21 : Nat → Int32} (hb : b = nI 0) (hp : post (c, b, t, rc, a1, a2, a3, a4, a5, a6, a7, a8, a9, a10, a11, a12, a13, a14, a15, a16, a17, a18, a19, a20, a21)) : wpX_retry post (c, b, t, rc, a1, a2, a3, a4, a5, a6, a7, a8, a9, a10, a11, a12, a13, a14, a15, a16, a17, a18, a19, a20, a21) := by
  subst hb
  exact ⟨1, pk_le 0 0 (fun _ => hp) (fun z => absurd z (by omega))⟩
end
section
/-! areEnds, isSize, isSpan, areTerms; contact, send, quote -/
theorem cn_e6 {u v : Nat} (hu : u < 6) (hv : v < 6) : nI (6 * u + v) / 6 = nI u := by
  rw [cn_div (a := 6 * u + v) (d := 6) (y := 6) rfl rfl (by omega) (by omega) (by omega), show (6 * u + v) / 6 = u by omega]
theorem cn_m6 {u v : Nat} (hu : u < 6) (hv : v < 6) : nI (6 * u + v) - nI (6 * u + v) / 6 * 6 = nI v := by
  rw [cn_rem (a := 6 * u + v) (d := 6) (y := 6) rfl rfl (by omega) (by omega) (by omega), show (6 * u + v) % 6 = v by omega]
theorem cn_ae {post : Int32 → Prop} {u v : Nat} {p0 : Int32} (h0 : p0 = nI (6 * u + v)) (hu : u < 6) (hv : v < 6) (hne : u ≠ v) (hp : post 1) : wpX_areEnds post () p0 := by
  subst h0
  exact br_f (nI_pos (by omega)) (pk_le 36 (6 * u + v) (fun z => absurd z (by omega)) (fun _ => cn_ne 6 (cn_ne 6 (pk_eq u v (fun z => absurd z hne) (fun _ => hp) (cn_e6 hu hv) (cn_m6 hu hv)))))
theorem cn_iz {post : Int32 → Prop} {sz : Nat} {p0 : Int32} (h0 : p0 = nI sz) (h1 : 1 ≤ sz) (h2 : sz ≤ 30) (hp : post 1) : wpX_isSize post () p0 := by
  subst h0
  exact pk_lt sz 1 (fun z => absurd z (by omega)) (fun _ => pk_lt 30 sz (fun z => absurd z (by omega)) (fun _ => hp))
theorem cn_e101 {s : Nat} (hs : s < 100) : nI (101 * s + 100) / 101 = nI s := by
  rw [cn_div (a := 101 * s + 100) (d := 101) (y := 101) rfl rfl (by omega) (by omega) (by omega), show (101 * s + 100) / 101 = s by omega]
theorem cn_m101 {s : Nat} (hs : s < 100) : nI (101 * s + 100) - nI (101 * s + 100) / 101 * 101 = nI 100 := by
  rw [cn_rem (a := 101 * s + 100) (d := 101) (y := 101) rfl rfl (by omega) (by omega) (by omega), show (101 * s + 100) % 101 = 100 by omega]
theorem cn_is {post : Int32 → Prop} {s : Nat} {p0 : Int32} (h0 : p0 = nI (101 * s + 100)) (hs : s < 100) (hp : post 1) : wpX_isSpan post () p0 := by
  subst h0
  exact br_f (nI_pos (by omega)) (cn_ne 101 (cn_ne 101 (pk_le 100 s (fun z => absurd z (by omega)) (fun _ => cn_ne 101 (pk_le 101 s (fun z => absurd z (by omega)) (fun _ => hp) rfl (cn_e101 hs))) (cn_m101 hs) (cn_e101 hs))))
theorem cn_e10 {r d : Nat} (hr : r ≤ 9) (hd : d ≤ 9) : nI (10 * r + d) / 10 = nI r := by
  rw [cn_div (a := 10 * r + d) (d := 10) (y := 10) rfl rfl (by omega) (by omega) (by omega), show (10 * r + d) / 10 = r by omega]
theorem cn_m10 {r d : Nat} (hr : r ≤ 9) (hd : d ≤ 9) : nI (10 * r + d) - nI (10 * r + d) / 10 * 10 = nI d := by
  rw [cn_rem (a := 10 * r + d) (d := 10) (y := 10) rfl rfl (by omega) (by omega) (by omega), show (10 * r + d) % 10 = d by omega]
theorem cn_te {post : Int32 → Prop} {r d : Nat} {p0 : Int32} (h0 : p0 = nI (10 * r + d)) (hr : 1 ≤ r) (hr2 : r ≤ 8) (hd : d ≤ 7) (hp : post 1) : wpX_areTerms post () p0 := by
  subst h0
  exact pk_lt (10 * r + d) 10 (fun z => absurd z (by omega)) (fun _ => pk_le 100 (10 * r + d) (fun z => absurd z (by omega)) (fun _ => hp))
theorem cn_contact {post : Int32 → St2 → Prop} {c b t rc : Int32} {a1 a2 a3 a4 a5 a6 a7 a8 a9 a10 a11 a12 a13 a14 a15 a16 a17 a18 a19 a20 a21 : Nat → Int32} {k u v s r d : Nat} {p0 p1 p2 : Int32} (h0 : p0 = nI (6 * u + v)) (h1 : p1 = nI (101 * s + 100)) (h2 : p2 = nI (10 * r + d)) (hu : u < 6) (hv : v < 6) (hne : u ≠ v) (hs : s < 100) (hr : 1 ≤ r) (hr2 : r ≤ 8) (hd : d ≤ 7)
    (hc : c = nI k) (hk : k < 10) (hb : b = nI 0) (hp : post (nI k) ((nI (k + 1)), b, t, rc, a1, (upd a2 k (nI u)), (upd a3 k (nI v)), (upd a4 k (nI s)), (upd a5 k (nI 100)), (upd a6 k (nI r)), (upd a7 k (nI d)), a8, a9, a10, a11, a12, a13, a14, a15, a16, a17, a18, a19, a20, a21)) : wpX_contact post (c, b, t, rc, a1, a2, a3, a4, a5, a6, a7, a8, a9, a10, a11, a12, a13, a14, a15, a16, a17, a18, a19, a20, a21) p0 p1 p2 := by
  subst h0 h1 h2 hc
  unfold wpX_contact
  dsimp only
  refine cn_ae rfl hu hv hne (br_f (by decide) (cn_is rfl hs (br_f (by decide) (cn_te rfl hr hr2 hd (br_f (by decide) (pk_lt k 10 (fun _ => nm_r (nI_1 k) ?_) (fun z => absurd z (by omega))))))))
  exact cn_ne 6 ⟨pk_in k 10 hk, nm_r (cn_up rfl (cn_e6 hu hv)) (cn_ne 6 ⟨pk_in k 10 hk, nm_r (cn_up rfl (cn_m6 hu hv)) (cn_ne 101 ⟨pk_in k 10 hk, nm_r (cn_up rfl (cn_e101 hs)) (cn_ne 101 ⟨pk_in k 10 hk, nm_r (cn_up rfl (cn_m101 hs)) (cn_ne 10 ⟨pk_in k 10 hk, nm_r (cn_up rfl (cn_e10 (by omega) (by omega))) (cn_ne 10 ⟨pk_in k 10 hk, nm_r (cn_up rfl (cn_m10 (by omega) (by omega))) (cn_rt0 hb hp)⟩)⟩)⟩)⟩)⟩)⟩
theorem cn_send {post : Int32 → St2 → Prop} {c b t rc : Int32} {a1 a2 a3 a4 a5 a6 a7 a8 a9 a10 a11 a12 a13 a14 a15 a16 a17 a18 a19 a20 a21 : Nat → Int32} {u v sz bd : Nat} {p0 p1 p2 : Int32} (h0 : p0 = nI (6 * u + v)) (h1 : p1 = nI sz) (hu : u < 6) (hv : v < 6) (hne : u ≠ v) (hz1 : 1 ≤ sz) (hz2 : sz ≤ 30) (hb : b = nI bd) (hbd : bd < 10)
    (H : ∀ Q : St2 → Prop, (∀ w, post (nI bd) w → Q w) → wpX_plan Q (c, (nI (bd + 1)), t, rc, a1, a2, a3, a4, a5, a6, a7, a8, (upd a9 bd (nI u)), (upd a10 bd (nI v)), (upd a11 bd (nI sz)), (upd a12 bd p2), a13, a14, (upd a15 bd 0), a16, a17, a18, a19, a20, a21) (nI bd)) : wpX_send post (c, b, t, rc, a1, a2, a3, a4, a5, a6, a7, a8, a9, a10, a11, a12, a13, a14, a15, a16, a17, a18, a19, a20, a21) p0 p1 p2 := by
  subst h0 h1 hb
  unfold wpX_send
  dsimp only
  refine cn_ae rfl hu hv hne (br_f (by decide) (cn_iz rfl hz1 hz2 (br_f (by decide) (pk_lt bd 10 (fun _ => nm_r (nI_1 bd) ?_) (fun z => absurd z (by omega))))))
  refine cn_ne 6 ⟨pk_in bd 10 hbd, nm_r (cn_up rfl (cn_e6 hu hv)) (cn_ne 6 ⟨pk_in bd 10 hbd, nm_r (cn_up rfl (cn_m6 hu hv)) ⟨pk_in bd 10 hbd, nm_r (cn_up rfl rfl) ⟨pk_in bd 10 hbd, nm_r (cn_up rfl rfl) ⟨pk_in bd 10 hbd, nm_r (cn_up rfl rfl) (H _ (fun w hw => ?_))⟩⟩⟩⟩)⟩
  obtain ⟨c', b', t', rc', d1, d2, d3, d4, d5, d6, d7, d8, d9, d10, d11, d12, d13, d14, d15, d16, d17, d18, d19, d20, d21⟩ := w
  exact hw
theorem cn_quote {post : Int32 → St2 → Prop} {c b t rc : Int32} {a1 a2 a3 a4 a5 a6 a7 a8 a9 a10 a11 a12 a13 a14 a15 a16 a17 a18 a19 a20 a21 : Nat → Int32} {m sz : Nat} {nd A : Nat → Nat} {p0 p1 : Int32} (h0 : p0 = nI (6 * nd 0 + nd m)) (h1 : p1 = nI sz) (hz1 : 1 ≤ sz) (hz2 : sz ≤ 30) (hm1 : 1 ≤ m)
    (ht : t = nI (A 0)) (hc : c = nI m) (N : cn_N m nd a2 a3) (hA : ∀ j, A j ≤ 1000000) (HC : cn_CI m sz A a1 a4 a5 a6 a7 a8)
    (H1 : ∀ f g, A m < 1000000 → post (nI (A m)) (c, b, t, rc, a1, a2, a3, a4, a5, a6, a7, a8, a9, a10, a11, a12, a13, a14, a15, a16, a17, a18, a19, f, g)) (H2 : ∀ f g, A m = 1000000 → post (-2) (c, b, t, rc, a1, a2, a3, a4, a5, a6, a7, a8, a9, a10, a11, a12, a13, a14, a15, a16, a17, a18, a19, f, g)) : wpX_quote post (c, b, t, rc, a1, a2, a3, a4, a5, a6, a7, a8, a9, a10, a11, a12, a13, a14, a15, a16, a17, a18, a19, a20, a21) p0 p1 := by
  subst h0 h1
  have hm := N.1
  have b0 := N.2.1 0
  have bm := N.2.1 m
  have hAm := hA m
  have hne : nd 0 ≠ nd m := fun z => absurd (N.2.2.1 0 m (by omega) (by omega) z) (by omega)
  unfold wpX_quote
  dsimp only
  refine cn_ae rfl b0 bm hne (br_f (by decide) (cn_iz rfl hz1 hz2 (br_f (by decide) (cn_ne 6 ?_))))
  refine cn_spread (s := 0) (most := 5) (cn_e6 b0 bm) ht rfl rfl hc N hA HC (by omega) (by omega) (fun f g h => ?_)
  have e : f (nI (6 * nd 0 + nd m) - nI (6 * nd 0 + nd m) / 6 * 6).toNatClampNeg = nI (A m) := by
    refine cn_at (cn_m6 b0 bm) (by omega) ?_
    rw [h.1 m (Nat.le_refl m), show cn_F 0 5 A m = A m from if_pos ⟨by omega, by omega⟩]
  exact cn_ne 6 ⟨pk_in (nd m) 6 bm (cn_m6 b0 bm), nm_r e (pk_lt (A m) 1000000 (fun z => H1 f g z) (fun z => H2 f g (by omega)))⟩
end
section
/-! questions to a state in which bundle 1 is booked -/
theorem cn_ibG {post : Int32 → Prop} {c b t rc : Int32} {a1 a2 a3 a4 a5 a6 a7 a8 a9 a10 a11 a12 a13 a14 a15 a16 a17 a18 a19 a20 a21 : Nat → Int32} {bd nb : Nat} {p0 : Int32} (h0 : p0 = nI bd) (hb : b = nI nb) (hbd : bd < nb) (hn : nb ≤ 10) (hp : post 1) : wpX_isBundle post (c, b, t, rc, a1, a2, a3, a4, a5, a6, a7, a8, a9, a10, a11, a12, a13, a14, a15, a16, a17, a18, a19, a20, a21) p0 := by
  subst h0 hb
  exact br_f (nI_pos (by omega)) (pk_le nb bd (fun z => absurd z (by omega)) (fun _ => hp))
theorem cn_ib {post : Int32 → Prop} {c b t rc : Int32} {a1 a2 a3 a4 a5 a6 a7 a8 a9 a10 a11 a12 a13 a14 a15 a16 a17 a18 a19 a20 a21 : Nat → Int32} {bd : Nat} {p0 : Int32} (h0 : p0 = nI bd) (hb : b = nI 2) (hbd : bd < 2) (hp : post 1) : wpX_isBundle post (c, b, t, rc, a1, a2, a3, a4, a5, a6, a7, a8, a9, a10, a11, a12, a13, a14, a15, a16, a17, a18, a19, a20, a21) p0 := cn_ibG h0 hb hbd (by omega) hp
/-- a bundle that isn't routed -/
theorem cn_stN {post : Int32 → Prop} {c b t rc : Int32} {a1 a2 a3 a4 a5 a6 a7 a8 a9 a10 a11 a12 a13 a14 a15 a16 a17 a18 a19 a20 a21 : Nat → Int32} {bd nb : Nat} {p0 : Int32} (h0 : p0 = nI bd) (hb : b = nI nb) (hbd : bd < nb) (hn : nb ≤ 10) (h13 : a13 bd = 0) (hp : post 0) : wpX_state post (c, b, t, rc, a1, a2, a3, a4, a5, a6, a7, a8, a9, a10, a11, a12, a13, a14, a15, a16, a17, a18, a19, a20, a21) p0 := by
  subst h0
  unfold wpX_state
  dsimp only
  exact cn_ibG rfl hb hbd hn (br_f (by decide) ⟨pk_in bd 10 (by omega), br_t (cn_at rfl (by omega) h13) hp⟩)
theorem cn_arN {post : Int32 → Prop} {c b t rc : Int32} {a1 a2 a3 a4 a5 a6 a7 a8 a9 a10 a11 a12 a13 a14 a15 a16 a17 a18 a19 a20 a21 : Nat → Int32} {bd nb : Nat} {p0 : Int32} (h0 : p0 = nI bd) (hb : b = nI nb) (hbd : bd < nb) (hn : nb ≤ 10) (h13 : a13 bd = 0) (hp : post (-2)) : wpX_arrival post (c, b, t, rc, a1, a2, a3, a4, a5, a6, a7, a8, a9, a10, a11, a12, a13, a14, a15, a16, a17, a18, a19, a20, a21) p0 := by
  subst h0
  unfold wpX_arrival
  dsimp only
  exact cn_ibG rfl hb hbd hn (br_f (by decide) ⟨pk_in bd 10 (by omega), br_t (cn_at rfl (by omega) h13) hp⟩)
theorem cn_cb {post : Int32 → Prop} {c b t rc : Int32} {a1 a2 a3 a4 a5 a6 a7 a8 a9 a10 a11 a12 a13 a14 a15 a16 a17 a18 a19 a20 a21 : Nat → Int32} {bd i k sz Bv d : Nat} {rt : Nat → Nat} {p0 p1 : Int32} (h0 : p0 = nI bd) (h1 : p1 = nI i) (hbd : bd < 10) (hi : i < 100) (h16 : a16 (100 * bd + i) = nI k) (hk : k < 10) (h17 : a17 (100 * bd + i) = nI Bv) (h11 : a11 bd = nI sz) (hz : sz ≤ 30) (h6 : a6 k = nI (rt k)) (hr : 1 ≤ rt k ∧ rt k ≤ 8) (h7 : a7 k = nI d)
    (hp : post (nI (Bv + cn_nx sz rt k + d))) : wpX_comesInBy post (c, b, t, rc, a1, a2, a3, a4, a5, a6, a7, a8, a9, a10, a11, a12, a13, a14, a15, a16, a17, a18, a19, a20, a21) p0 p1 := by
  subst h0 h1
  have ex := cn_100 bd i
  have e16 : a16 (100 * nI bd + nI i).toNatClampNeg = nI k := cn_at ex (by omega) h16
  have e17 : a17 (100 * nI bd + nI i).toNatClampNeg = nI Bv := cn_at ex (by omega) h17
  have e11 : a11 (nI bd).toNatClampNeg = nI sz := cn_at rfl (by omega) h11
  have e7 : a7 (nI k).toNatClampNeg = nI d := cn_at rfl (by omega) h7
  refine ⟨pk_in (100 * bd + i) 1000 (by omega) ex, nm_r e16 ⟨pk_in (100 * bd + i) 1000 (by omega) ex, pk_in bd 10 hbd, cn_tk rfl e11 hk h6 hr hz ⟨pk_in k 10 hk, ?_⟩⟩⟩
  rw [e17, e7, nI_add, nI_add]
  exact hp
/-- bundle 1 is booked on the path, bundle 0 isn't routed -/
def cn_Bk (m sz : Nat) (nd B rt dl : Nat → Nat) (c b : Int32) (a2 a3 a6 a7 a9 a11 a13 a15 a16 a17 : Nat → Int32) : Prop :=
  c = nI m ∧ b = nI 2 ∧ cn_N m nd a2 a3 ∧ (∀ k, k < m → a6 k = nI (rt k)) ∧ (∀ k, k < m → a7 k = nI (dl k)) ∧ a9 0 = nI (nd 0) ∧ a11 1 = nI sz ∧ a13 0 = 0 ∧ ¬ a13 1 = 0 ∧ a15 0 = nI 0 ∧ a15 1 = nI m ∧ (∀ j, j < m → a16 (100 * 1 + j) = nI j) ∧ (∀ j, j < m → a17 (100 * 1 + j) = nI (B j)) ∧
  1 ≤ m ∧ sz ≤ 30 ∧ (∀ k, 1 ≤ rt k ∧ rt k ≤ 8)
theorem cn_cb1 {post : Int32 → Prop} {c b t rc : Int32} {a1 a2 a3 a4 a5 a6 a7 a8 a9 a10 a11 a12 a13 a14 a15 a16 a17 a18 a19 a20 a21 : Nat → Int32} {m sz i : Nat} {nd B rt dl : Nat → Nat} {p0 p1 : Int32} (K : cn_Bk m sz nd B rt dl c b a2 a3 a6 a7 a9 a11 a13 a15 a16 a17) (h0 : p0 = nI 1) (h1 : p1 = nI i) (hi : i < m) (hp : post (nI (B i + cn_nx sz rt i + dl i))) : wpX_comesInBy post (c, b, t, rc, a1, a2, a3, a4, a5, a6, a7, a8, a9, a10, a11, a12, a13, a14, a15, a16, a17, a18, a19, a20, a21) p0 p1 := by
  obtain ⟨k1, k2, k3, k4, k5, k6, k7, k8, k9, k10, k11, k12, k13, k14, k15, k16⟩ := K
  have hm := k3.1
  exact cn_cb h0 h1 (by omega) (by omega) (k12 i hi) (by omega) (k13 i hi) k7 k15 (k4 i hi) (k16 i) (k5 i hi) hp
theorem cn_st0 {post : Int32 → Prop} {c b t rc : Int32} {a1 a2 a3 a4 a5 a6 a7 a8 a9 a10 a11 a12 a13 a14 a15 a16 a17 a18 a19 a20 a21 : Nat → Int32} {m sz : Nat} {nd B rt dl : Nat → Nat} {p0 : Int32} (K : cn_Bk m sz nd B rt dl c b a2 a3 a6 a7 a9 a11 a13 a15 a16 a17) (h0 : p0 = nI 0) (hp : post 0) : wpX_state post (c, b, t, rc, a1, a2, a3, a4, a5, a6, a7, a8, a9, a10, a11, a12, a13, a14, a15, a16, a17, a18, a19, a20, a21) p0 := by
  obtain ⟨k1, k2, k3, k4, k5, k6, k7, k8, k9, k10, k11, k12, k13, k14, k15, k16⟩ := K
  subst h0
  unfold wpX_state
  dsimp only
  exact cn_ib rfl k2 (by omega) (br_f (by decide) ⟨pk_in 0 10 (by omega), br_t (cn_at rfl (by omega) k8) hp⟩)
theorem cn_st1 {post : Int32 → Prop} {c b t rc : Int32} {a1 a2 a3 a4 a5 a6 a7 a8 a9 a10 a11 a12 a13 a14 a15 a16 a17 a18 a19 a20 a21 : Nat → Int32} {m sz tn : Nat} {nd B rt dl : Nat → Nat} {p0 : Int32} (K : cn_Bk m sz nd B rt dl c b a2 a3 a6 a7 a9 a11 a13 a15 a16 a17) (h0 : p0 = nI 1) (ht : t = nI tn) (htn : tn < 1000000) (hB : B (m - 1) + cn_nx sz rt (m - 1) + dl (m - 1) < 1000000)
    (hp1 : tn < B (m - 1) + cn_nx sz rt (m - 1) + dl (m - 1) → post 1) (hp2 : B (m - 1) + cn_nx sz rt (m - 1) + dl (m - 1) ≤ tn → post 2) : wpX_state post (c, b, t, rc, a1, a2, a3, a4, a5, a6, a7, a8, a9, a10, a11, a12, a13, a14, a15, a16, a17, a18, a19, a20, a21) p0 := by
  have K' := K
  obtain ⟨k1, k2, k3, k4, k5, k6, k7, k8, k9, k10, k11, k12, k13, k14, k15, k16⟩ := K
  have hm := k3.1
  subst h0
  have e15 : a15 (nI 1).toNatClampNeg - 1 = nI (m - 1) := by rw [cn_at (f := a15) rfl (by omega) k11, cn_pr k14]
  unfold wpX_state
  dsimp only
  refine cn_ib rfl k2 (by omega) (br_f (by decide) ⟨pk_in 1 10 (by omega), br_f (by rw [nI_clamp (by omega)]; exact k9) ⟨pk_in 1 10 (by omega), ?_⟩⟩)
  exact cn_cb1 K' rfl e15 (by omega) (pk_lt tn (B (m - 1) + cn_nx sz rt (m - 1) + dl (m - 1)) hp1 hp2 ht)
theorem cn_arr {post : Int32 → Prop} {c b t rc : Int32} {a1 a2 a3 a4 a5 a6 a7 a8 a9 a10 a11 a12 a13 a14 a15 a16 a17 a18 a19 a20 a21 : Nat → Int32} {m sz : Nat} {nd B rt dl : Nat → Nat} {p0 : Int32} (K : cn_Bk m sz nd B rt dl c b a2 a3 a6 a7 a9 a11 a13 a15 a16 a17) (h0 : p0 = nI 1) (hp : post (nI (B (m - 1) + cn_nx sz rt (m - 1) + dl (m - 1)))) : wpX_arrival post (c, b, t, rc, a1, a2, a3, a4, a5, a6, a7, a8, a9, a10, a11, a12, a13, a14, a15, a16, a17, a18, a19, a20, a21) p0 := by
  have K' := K
  obtain ⟨k1, k2, k3, k4, k5, k6, k7, k8, k9, k10, k11, k12, k13, k14, k15, k16⟩ := K
  subst h0
  have e15 : a15 (nI 1).toNatClampNeg - 1 = nI (m - 1) := by rw [cn_at (f := a15) rfl (by omega) k11, cn_pr k14]
  unfold wpX_arrival
  dsimp only
  refine cn_ib rfl k2 (by omega) (br_f (by decide) ⟨pk_in 1 10 (by omega), br_f (by rw [nI_clamp (by omega)]; exact k9) ⟨pk_in 1 10 (by omega), ?_⟩⟩)
  exact cn_cb1 K' rfl e15 (by omega) hp
theorem cn_hops {post : Int32 → Prop} {c b t rc : Int32} {a1 a2 a3 a4 a5 a6 a7 a8 a9 a10 a11 a12 a13 a14 a15 a16 a17 a18 a19 a20 a21 : Nat → Int32} {p0 v : Int32} (h0 : p0 = nI 1) (hb : b = nI 2) (h15 : a15 1 = v) (hp : post v) : wpX_hops post (c, b, t, rc, a1, a2, a3, a4, a5, a6, a7, a8, a9, a10, a11, a12, a13, a14, a15, a16, a17, a18, a19, a20, a21) p0 := by
  subst h0
  unfold wpX_hops
  dsimp only
  refine cn_ib rfl hb (by omega) (br_f (by decide) ⟨pk_in 1 10 (by omega), ?_⟩)
  rw [nI_clamp (by omega), h15]
  exact hp
theorem cn_hop1 {post : Int32 → Prop} {c b t rc : Int32} {a1 a2 a3 a4 a5 a6 a7 a8 a9 a10 a11 a12 a13 a14 a15 a16 a17 a18 a19 a20 a21 : Nat → Int32} {m sz i : Nat} {nd B rt dl : Nat → Nat} {p0 p1 : Int32} (K : cn_Bk m sz nd B rt dl c b a2 a3 a6 a7 a9 a11 a13 a15 a16 a17) (h0 : p0 = nI 1) (h1 : p1 = nI i) (hi : i < m) (hp : post (nI (1000 * i + B i))) : wpX_hop post (c, b, t, rc, a1, a2, a3, a4, a5, a6, a7, a8, a9, a10, a11, a12, a13, a14, a15, a16, a17, a18, a19, a20, a21) p0 p1 := by
  obtain ⟨k1, k2, k3, k4, k5, k6, k7, k8, k9, k10, k11, k12, k13, k14, k15, k16⟩ := K
  subst h0 h1
  have hm := k3.1
  have ex : (100 : Int32) * nI 1 + nI i = nI (100 * 1 + i) := cn_100 1 i
  unfold wpX_hop
  dsimp only
  refine cn_ib rfl k2 (by omega) (br_f (by decide) (br_f (nI_pos (by omega)) ⟨pk_in 1 10 (by omega), pk_lt i m (fun _ => ⟨pk_in (100 * 1 + i) 1000 (by omega) ex, pk_in (100 * 1 + i) 1000 (by omega) ex, ?_⟩) (fun z => absurd z (by omega)) rfl (cn_at rfl (by omega) k11)⟩))
  rw [cn_at (f := a16) ex (by omega) (k12 i hi), cn_at (f := a17) ex (by omega) (k13 i hi), show (1000 : Int32) = nI 1000 from rfl, pk_mul, nI_add]
  exact hp
theorem cn_hopN {post : Int32 → Prop} {c b t rc : Int32} {a1 a2 a3 a4 a5 a6 a7 a8 a9 a10 a11 a12 a13 a14 a15 a16 a17 a18 a19 a20 a21 : Nat → Int32} {m sz : Nat} {nd B rt dl : Nat → Nat} {p0 p1 : Int32} (K : cn_Bk m sz nd B rt dl c b a2 a3 a6 a7 a9 a11 a13 a15 a16 a17) (h0 : p0 = nI 1) (h1 : p1 = nI m) (hp : post (-2)) : wpX_hop post (c, b, t, rc, a1, a2, a3, a4, a5, a6, a7, a8, a9, a10, a11, a12, a13, a14, a15, a16, a17, a18, a19, a20, a21) p0 p1 := by
  obtain ⟨k1, k2, k3, k4, k5, k6, k7, k8, k9, k10, k11, k12, k13, k14, k15, k16⟩ := K
  subst h0 h1
  have hm := k3.1
  unfold wpX_hop
  dsimp only
  exact cn_ib rfl k2 (by omega) (br_f (by decide) (br_f (nI_pos (by omega)) ⟨pk_in 1 10 (by omega), pk_lt m m (fun z => absurd z (by omega)) (fun _ => hp) rfl (cn_at rfl (by omega) k11)⟩))
/-- bundle 0 stays where it is -/
theorem cn_pc0 {post : Int32 → Prop} {c b t rc : Int32} {a1 a2 a3 a4 a5 a6 a7 a8 a9 a10 a11 a12 a13 a14 a15 a16 a17 a18 a19 a20 a21 : Nat → Int32} {m sz : Nat} {nd B rt dl : Nat → Nat} {p0 : Int32} (K : cn_Bk m sz nd B rt dl c b a2 a3 a6 a7 a9 a11 a13 a15 a16 a17) (h0 : p0 = nI 0) (hp : post (nI (nd 0))) : wpX_place post (c, b, t, rc, a1, a2, a3, a4, a5, a6, a7, a8, a9, a10, a11, a12, a13, a14, a15, a16, a17, a18, a19, a20, a21) p0 := by
  obtain ⟨k1, k2, k3, k4, k5, k6, k7, k8, k9, k10, k11, k12, k13, k14, k15, k16⟩ := K
  subst h0
  unfold wpX_place
  dsimp only
  refine cn_ib rfl k2 (by omega) (br_f (by decide) ⟨1, pk_in 0 10 (by omega), pk_le 0 0 (fun _ => cn_ln0 rfl (by omega) k10 ?_) (fun z => absurd z (by omega)) (cn_at rfl (by omega) k10)⟩)
  rw [k6]
  exact hp
/-- bundle 1 is on hop i, or waits for it -/
theorem cn_pc1 {post : Int32 → Prop} {c b t rc : Int32} {a1 a2 a3 a4 a5 a6 a7 a8 a9 a10 a11 a12 a13 a14 a15 a16 a17 a18 a19 a20 a21 : Nat → Int32} {m sz tn i : Nat} {nd B rt dl : Nat → Nat} {p0 : Int32} (K : cn_Bk m sz nd B rt dl c b a2 a3 a6 a7 a9 a11 a13 a15 a16 a17) (h0 : p0 = nI 1) (ht : t = nI tn) (htn : tn < 1000000) (hB : ∀ k, k < m → B k + cn_nx sz rt k + dl k < 1000000) (hi : i < m)
    (hl : ∀ k, k < i → B k + cn_nx sz rt k + dl k ≤ tn) (hg : tn < B i + cn_nx sz rt i + dl i) (hp1 : tn ≤ B i → post (nI (nd i))) (hp2 : B i < tn → post (nI (10 + i))) : wpX_place post (c, b, t, rc, a1, a2, a3, a4, a5, a6, a7, a8, a9, a10, a11, a12, a13, a14, a15, a16, a17, a18, a19, a20, a21) p0 := by
  have K' := K
  obtain ⟨k1, k2, k3, k4, k5, k6, k7, k8, k9, k10, k11, k12, k13, k14, k15, k16⟩ := K
  subst h0
  have hm := k3.1
  have e15 : a15 (nI 1).toNatClampNeg = nI m := cn_at rfl (by omega) k11
  unfold wpX_place
  dsimp only
  refine cn_ib rfl k2 (by omega) (br_f (by decide) ?_)
  refine pk_loop (σ := Unit) (fun n k _ => wX_place_12 post (nI 1) c b t rc a1 a2 a3 a4 a5 a6 a7 a8 a9 a10 a11 a12 a13 a14 a15 a16 a17 a18 a19 a20 a21 n (nI k)) (fun _ _ => True) i 0 () (by omega) trivial (fun n _ _ => ?_) (fun n k _ hk _ hw => ?_)
  · have hBi := hB i hi
    have ex : (100 : Int32) * nI 1 + nI i = nI (100 * 1 + i) := cn_100 1 i
    have e17 : a17 (100 * nI 1 + nI i).toNatClampNeg = nI (B i) := cn_at ex (by omega) (k13 i hi)
    refine ⟨pk_in 1 10 (by omega), pk_le m i (fun z => absurd z (by omega)) (fun _ => ?_) e15⟩
    refine cn_cb1 K' rfl rfl hi (pk_le (B i + cn_nx sz rt i + dl i) tn (fun z => absurd z (by omega)) (fun _ => ⟨pk_in (100 * 1 + i) 1000 (by omega) ex, nm_r (cn_at ex (by omega) (k12 i hi)) ⟨pk_in (100 * 1 + i) 1000 (by omega) ex, pk_le tn (B i) (fun z => ⟨pk_in i 10 (by omega), ?_⟩) (fun z => ?_) ht e17⟩⟩) rfl ht)
    · rw [cn_at (f := a2) rfl (by omega) (k3.2.2.2 i hi).1]
      exact hp1 z
    · rw [show (10 : Int32) = nI 10 from rfl, nI_add]
      exact hp2 z
  · have hBk := hB k (by omega)
    have hlk := hl k hk
    exact ⟨pk_in 1 10 (by omega), pk_le m k (fun z => absurd z (by omega)) (fun _ => cn_cb1 K' rfl rfl (by omega) (pk_le (B k + cn_nx sz rt k + dl k) tn (fun _ => nm_r (nI_1 k) (hw () trivial)) (fun z => absurd z (by omega)) rfl ht)) e15⟩
/-- bundle 1 has come in -/
theorem cn_pc2 {post : Int32 → Prop} {c b t rc : Int32} {a1 a2 a3 a4 a5 a6 a7 a8 a9 a10 a11 a12 a13 a14 a15 a16 a17 a18 a19 a20 a21 : Nat → Int32} {m sz tn : Nat} {nd B rt dl : Nat → Nat} {p0 : Int32} (K : cn_Bk m sz nd B rt dl c b a2 a3 a6 a7 a9 a11 a13 a15 a16 a17) (h0 : p0 = nI 1) (ht : t = nI tn) (htn : tn < 1000000)
    (hl : ∀ k, k < m → B k + cn_nx sz rt k + dl k ≤ tn) (hp : post (nI (nd m))) : wpX_place post (c, b, t, rc, a1, a2, a3, a4, a5, a6, a7, a8, a9, a10, a11, a12, a13, a14, a15, a16, a17, a18, a19, a20, a21) p0 := by
  have K' := K
  obtain ⟨k1, k2, k3, k4, k5, k6, k7, k8, k9, k10, k11, k12, k13, k14, k15, k16⟩ := K
  subst h0
  have hm := k3.1
  have e15 : a15 (nI 1).toNatClampNeg = nI m := cn_at rfl (by omega) k11
  unfold wpX_place
  dsimp only
  refine cn_ib rfl k2 (by omega) (br_f (by decide) ?_)
  refine pk_loop (σ := Unit) (fun n k _ => wX_place_12 post (nI 1) c b t rc a1 a2 a3 a4 a5 a6 a7 a8 a9 a10 a11 a12 a13 a14 a15 a16 a17 a18 a19 a20 a21 n (nI k)) (fun _ _ => True) m 0 () (by omega) trivial (fun n _ _ => ?_) (fun n k _ hk _ hw => ?_)
  · refine ⟨pk_in 1 10 (by omega), pk_le m m (fun _ => ?_) (fun z => absurd z (by omega)) e15⟩
    have ex : (100 : Int32) * nI 1 + a15 (nI 1).toNatClampNeg - 1 = nI (100 * 1 + (m - 1)) := by
      rw [e15, cn_100, cn_pr (by omega), show 100 * 1 + m - 1 = 100 * 1 + (m - 1) by omega]
    have e16 : a16 (100 * nI 1 + a15 (nI 1).toNatClampNeg - 1).toNatClampNeg = nI (m - 1) := cn_at ex (by omega) (k12 (m - 1) (by omega))
    refine ⟨pk_in 1 10 (by omega), br_f (by rw [e15]; exact nI_ne0 (by omega) (by omega)) ⟨pk_in 1 10 (by omega), pk_in (100 * 1 + (m - 1)) 1000 (by omega) ex, pk_in (m - 1) 10 (by omega) e16, ?_⟩⟩
    rw [cn_at (f := a3) e16 (by omega) (k3.2.2.2 (m - 1) (by omega)).2, show m - 1 + 1 = m by omega]
    exact hp
  · have hlk := hl k hk
    exact ⟨pk_in 1 10 (by omega), pk_le m k (fun z => absurd z (by omega)) (fun _ => cn_cb1 K' rfl rfl (by omega) (pk_le (B k + cn_nx sz rt k + dl k) tn (fun _ => nm_r (nI_1 k) (hw () trivial)) (fun z => absurd z (by omega)) rfl ht)) e15⟩
theorem cn_pass {post : Int32 → St2 → Prop} {c b t rc : Int32} {a1 a2 a3 a4 a5 a6 a7 a8 a9 a10 a11 a12 a13 a14 a15 a16 a17 a18 a19 a20 a21 : Nat → Int32} {tn k w : Nat} {p0 : Int32} (h0 : p0 = nI k) (hk : k ≤ 200) (ht : t = nI tn) (hw : tn + k = w) (hp : post (nI w) (c, b, (nI w), rc, a1, a2, a3, a4, a5, a6, a7, a8, a9, a10, a11, a12, a13, a14, a15, a16, a17, a18, a19, a20, a21)) : wpX_pass post (c, b, t, rc, a1, a2, a3, a4, a5, a6, a7, a8, a9, a10, a11, a12, a13, a14, a15, a16, a17, a18, a19, a20, a21) p0 := by
  subst h0 ht hw
  exact br_f (nI_pos (by omega)) (pk_le k 200 (fun _ => nm_r (nI_add tn k) hp) (fun z => absurd z (by omega)))
theorem cn_ic {post : Int32 → Prop} {c b t rc : Int32} {a1 a2 a3 a4 a5 a6 a7 a8 a9 a10 a11 a12 a13 a14 a15 a16 a17 a18 a19 a20 a21 : Nat → Int32} {m k : Nat} {p0 : Int32} (h0 : p0 = nI k) (hc : c = nI m) (hm : m ≤ 10) (hk : k < m) (hp : post 1) : wpX_isContact post (c, b, t, rc, a1, a2, a3, a4, a5, a6, a7, a8, a9, a10, a11, a12, a13, a14, a15, a16, a17, a18, a19, a20, a21) p0 := by
  subst h0 hc
  exact br_f (nI_pos (by omega)) (pk_le m k (fun z => absurd z (by omega)) (fun _ => hp))
/-- how many ticks are booked on contact k -/
theorem cn_bkd {post : Int32 → Prop} {c b t rc : Int32} {a1 a2 a3 a4 a5 a6 a7 a8 a9 a10 a11 a12 a13 a14 a15 a16 a17 a18 a19 a20 a21 : Nat → Int32} {m k b0 q : Nat} {p0 : Int32} (h0 : p0 = nI k) (hc : c = nI m) (hm : m ≤ 10) (hk : k < m) (h1 : a1 k = 0) (h8 : ∀ j, j < 101 → a8 (101 * k + j) = if b0 ≤ j ∧ j < b0 + q then 1 else 0) (hb : b0 + q ≤ 100) (hp : post (nI q)) : wpX_booked post (c, b, t, rc, a1, a2, a3, a4, a5, a6, a7, a8, a9, a10, a11, a12, a13, a14, a15, a16, a17, a18, a19, a20, a21) p0 := by
  subst h0
  unfold wpX_booked
  dsimp only
  refine cn_ic rfl hc hm hk (br_f (by decide) ⟨pk_in k 10 (by omega), br_t (cn_at rfl (by omega) h1) ?_⟩)
  have st : nI (min 0 (b0 + q) - min 0 b0) = (0 : Int32) := by rw [show min 0 (b0 + q) - min 0 b0 = 0 by omega]; rfl
  rw [← st]
  refine pk_loop (σ := Unit) (fun n i _ => wX_booked_26 post (nI k) c b t rc a1 a2 a3 a4 a5 a6 a7 a8 a9 a10 a11 a12 a13 a14 a15 a16 a17 a18 a19 a20 a21 n (nI (min i (b0 + q) - min i b0)) (nI i)) (fun _ _ => True) 101 0 () (by omega) trivial (fun n _ _ => ?_) (fun n i _ hi _ hw => ?_)
  · refine pk_le 101 101 (fun _ => ?_) (fun z => absurd z (by omega))
    rw [show min 101 (b0 + q) - min 101 b0 = q by omega]
    exact hp
  · have hw' := hw () trivial
    have e8 : a8 (101 * nI k + nI i).toNatClampNeg = if b0 ≤ i ∧ i < b0 + q then 1 else 0 := cn_at (cn_101 k i) (by omega) (h8 i hi)
    refine pk_le 101 i (fun z => absurd z (by omega)) (fun _ => ⟨pk_in (101 * k + i) 1010 (by omega) (cn_101 k i), ?_⟩)
    by_cases g : b0 ≤ i ∧ i < b0 + q
    · rw [if_pos g] at e8
      refine br_f (by rw [e8]; decide) (nm_r (nI_1 _) (nm_r (nI_1 i) ?_))
      rw [show min i (b0 + q) - min i b0 + 1 = min (i + 1) (b0 + q) - min (i + 1) b0 by omega]
      exact hw'
    · rw [if_neg g] at e8
      refine br_t e8 (nm_r (e' := nI (min i (b0 + q) - min i b0)) (by rw [← nI_0, nI_add, Nat.add_zero]) (nm_r (nI_1 i) ?_))
      rw [show min i (b0 + q) - min i b0 = min (i + 1) (b0 + q) - min (i + 1) b0 by omega]
      exact hw'
theorem cn_bkC {post : Int32 → Prop} {c b t rc : Int32} {a1 a2 a3 a4 a5 a6 a7 a8 a9 a10 a11 a12 a13 a14 a15 a16 a17 a18 a19 a20 a21 : Nat → Int32} {m k : Nat} {p0 : Int32} (h0 : p0 = nI k) (hc : c = nI m) (hm : m ≤ 10) (hk : k < m) (h1 : ¬ a1 k = 0) (hp : post (-2)) : wpX_booked post (c, b, t, rc, a1, a2, a3, a4, a5, a6, a7, a8, a9, a10, a11, a12, a13, a14, a15, a16, a17, a18, a19, a20, a21) p0 := by
  subst h0
  unfold wpX_booked
  dsimp only
  exact cn_ic rfl hc hm hk (br_f (by decide) ⟨pk_in k 10 (by omega), br_f (by rw [nI_clamp (by omega)]; exact h1) hp⟩)
end
section
/-! reach, latest, cancel -/
theorem cn_or : ∀ s, s < 64 → ∀ v, v < 6 → nI s ||| ((1 : Int32) <<< (nI v &&& 31)) = nI (s ||| 2 ^ v) ∧ s ||| 2 ^ v < 64 ∧ 0 < s ||| 2 ^ v := by decide +kernel
theorem cn_or0 : ∀ s, s < 64 → nI s ||| 0 = nI s := by decide +kernel
theorem cn_sh : ∀ v, v < 6 → (1 : Int32) <<< (nI v &&& 31) = nI (2 ^ v) ∧ 2 ^ v < 64 ∧ 0 < 2 ^ v := by decide +kernel
theorem cn_rea1 {post : Int32 → St2 → Prop} {c b t rc : Int32} {a1 a2 a3 a4 a5 a6 a7 a8 a9 a10 a11 a12 a13 a14 a15 a16 a17 a18 a19 a20 a21 : Nat → Int32} {m sz : Nat} {nd A : Nat → Nat} {p0 p1 p2 : Int32} (h0 : p0 = nI (nd 0)) (h1 : p1 = nI sz) (hz1 : 1 ≤ sz) (hz2 : sz ≤ 30)
    (ht : t = nI (A 0)) (hc : c = nI m) (N : cn_N m nd a2 a3) (hA : ∀ j, A j ≤ 1000000) (HC : cn_CI m sz A a1 a4 a5 a6 a7 a8)
    (H : ∀ f g s, s < 64 → post (nI s) (c, b, t, rc, a1, a2, a3, a4, a5, a6, a7, a8, a9, a10, a11, a12, a13, a14, a15, a16, a17, a18, a19, f, g)) : wpX_reach post (c, b, t, rc, a1, a2, a3, a4, a5, a6, a7, a8, a9, a10, a11, a12, a13, a14, a15, a16, a17, a18, a19, a20, a21) p0 p1 p2 := by
  subst h0 h1
  have b0 := N.2.1 0
  have hs := cn_sh (nd 0) b0
  refine br_f (nI_pos (by omega)) (pk_le 6 (nd 0) (fun z => absurd z (by omega)) (fun _ => cn_iz rfl hz1 hz2 (br_f (by decide) ?_)))
  refine cn_spread (s := 0) (most := 5) rfl ht rfl rfl hc N hA HC (by omega) (by omega) (fun f g h => nm_r hs.1 ?_)
  refine pk_loop (fun n i (x : Int32) => wX_reach_38 post p2 c b t rc a1 a2 a3 a4 a5 a6 a7 a8 a9 a10 a11 a12 a13 a14 a15 a16 a17 a18 a19 f g n x (nI i)) (fun _ x => ∃ s, s < 64 ∧ x = nI s) 6 0 (nI (2 ^ nd 0)) (by omega) ⟨_, hs.2.1, rfl⟩ ?_ ?_
  · intro n x hx
    obtain ⟨s, hs, rfl⟩ := hx
    exact pk_le 6 6 (fun _ => H f g s hs) (fun z => absurd z (by omega))
  · intro n i x hi hx hw
    obtain ⟨s, hs, rfl⟩ := hx
    have q := cn_or s hs i hi
    have q0 := cn_or0 s hs
    refine pk_le 6 i (fun z => absurd z (by omega)) (fun _ => ⟨pk_in i 6 hi, br_c (fun _ => nm_r q0 (nm_r (nI_1 i) (hw _ ⟨s, hs, rfl⟩))) (fun _ => ⟨pk_in i 6 hi, br_c (fun _ => nm_r q0 (nm_r (nI_1 i) (hw _ ⟨s, hs, rfl⟩))) (fun _ => nm_r q.1 (nm_r (nI_1 i) (hw _ ⟨_, q.2.1, rfl⟩)))⟩)⟩)
theorem cn_rea2 {post : Int32 → St2 → Prop} {c b t rc : Int32} {a1 a2 a3 a4 a5 a6 a7 a8 a9 a10 a11 a12 a13 a14 a15 a16 a17 a18 a19 a20 a21 : Nat → Int32} {m sz by' : Nat} {nd A : Nat → Nat} {p0 p1 p2 : Int32} (h0 : p0 = nI (nd 0)) (h1 : p1 = nI sz) (h2 : p2 = nI by') (hby : by' < 1000000) (hz1 : 1 ≤ sz) (hz2 : sz ≤ 30)
    (ht : t = nI (A 0)) (hc : c = nI m) (N : cn_N m nd a2 a3) (hA : ∀ j, A j ≤ 1000000) (HC : cn_CI m sz A a1 a4 a5 a6 a7 a8) (hA0 : A 0 ≤ by') (hAj : ∀ j, 1 ≤ j → A j = 1000000)
    (H : ∀ f g, post (nI (2 ^ nd 0)) (c, b, t, rc, a1, a2, a3, a4, a5, a6, a7, a8, a9, a10, a11, a12, a13, a14, a15, a16, a17, a18, a19, f, g)) : wpX_reach post (c, b, t, rc, a1, a2, a3, a4, a5, a6, a7, a8, a9, a10, a11, a12, a13, a14, a15, a16, a17, a18, a19, a20, a21) p0 p1 p2 := by
  subst h0 h1 h2
  have b0 := N.2.1 0
  have hm := N.1
  have hs := cn_sh (nd 0) b0
  refine br_f (nI_pos (by omega)) (pk_le 6 (nd 0) (fun z => absurd z (by omega)) (fun _ => cn_iz rfl hz1 hz2 (br_f (by decide) ?_)))
  refine cn_spread (s := 0) (most := 5) rfl ht rfl rfl hc N hA HC (by omega) (by omega) (fun f g h => nm_r hs.1 ?_)
  have q0 := cn_or0 (2 ^ nd 0) hs.2.1
  have q := cn_or (2 ^ nd 0) hs.2.1 (nd 0) b0
  rw [Nat.or_self] at q
  refine pk_loop (σ := Unit) (fun n i _ => wX_reach_38 post (nI by') c b t rc a1 a2 a3 a4 a5 a6 a7 a8 a9 a10 a11 a12 a13 a14 a15 a16 a17 a18 a19 f g n (nI (2 ^ nd 0)) (nI i)) (fun _ _ => True) 6 0 () (by omega) trivial ?_ ?_
  · intro n _ _
    exact pk_le 6 6 (fun _ => H f g) (fun z => absurd z (by omega))
  · intro n i _ hi _ hw
    refine pk_le 6 i (fun z => absurd z (by omega)) (fun _ => ⟨pk_in i 6 hi, ?_⟩)
    by_cases e : i = nd 0
    · have e20 : f (nI i).toNatClampNeg = nI (A 0) := by
        refine cn_at rfl (by omega) ?_
        rw [e, h.1 0 (by omega), show cn_F 0 5 A 0 = A 0 from if_pos ⟨by omega, by omega⟩]
      have q' : nI (2 ^ nd 0) ||| ((1 : Int32) <<< (nI i &&& 31)) = nI (2 ^ nd 0) := by rw [e]; exact q.1
      exact pk_le 1000000 (A 0) (fun z => absurd z (by omega)) (fun _ => ⟨pk_in i 6 hi, pk_lt by' (A 0) (fun z => absurd z (by omega)) (fun _ => nm_r q' (nm_r (nI_1 i) (hw () trivial))) rfl e20⟩) rfl e20
    · have e20 : f (nI i).toNatClampNeg = nI 1000000 := by
        refine cn_at rfl (by omega) ?_
        by_cases ex : ∃ j, j ≤ m ∧ i = nd j
        · obtain ⟨j, hj, ej⟩ := ex
          have j0 : 1 ≤ j := by
            rcases Nat.eq_zero_or_pos j with z | z
            · rw [z] at ej
              exact absurd ej e
            · exact z
          rw [ej, h.1 j hj, show cn_F 0 5 A j = A j from if_pos ⟨by omega, by omega⟩, hAj j j0]
        · exact h.2 i hi (fun j hj z => ex ⟨j, hj, z⟩)
      exact pk_le 1000000 1000000 (fun _ => nm_r q0 (nm_r (nI_1 i) (hw () trivial))) (fun z => absurd z (by omega)) rfl e20
theorem cn_lat {post : Int32 → St2 → Prop} {c b t rc : Int32} {a1 a2 a3 a4 a5 a6 a7 a8 a9 a10 a11 a12 a13 a14 a15 a16 a17 a18 a19 a20 a21 : Nat → Int32} {m sz : Nat} {nd A : Nat → Nat} {p0 p1 p2 : Int32} (h0 : p0 = nI (6 * nd 0 + nd m)) (h1 : p1 = nI sz) (hz1 : 1 ≤ sz) (hz2 : sz ≤ 30) (hm1 : 1 ≤ m)
    (ht : t = nI (A 0)) (ht0 : A 0 ≤ 100) (hc : c = nI m) (N : cn_N m nd a2 a3) (hA : ∀ j, A j ≤ 1000000) (HC : cn_CI m sz A a1 a4 a5 a6 a7 a8) (hN : A m = 1000000)
    (H : ∀ f g, post (-4) (c, b, t, rc, a1, a2, a3, a4, a5, a6, a7, a8, a9, a10, a11, a12, a13, a14, a15, a16, a17, a18, a19, f, g)) : wpX_latest post (c, b, t, rc, a1, a2, a3, a4, a5, a6, a7, a8, a9, a10, a11, a12, a13, a14, a15, a16, a17, a18, a19, a20, a21) p0 p1 p2 := by
  subst h0 h1
  have hm := N.1
  have b0 := N.2.1 0
  have bm := N.2.1 m
  have hne : nd 0 ≠ nd m := fun z => absurd (N.2.2.1 0 m (by omega) (by omega) z) (by omega)
  unfold wpX_latest
  dsimp only
  refine cn_ae rfl b0 bm hne (br_f (by decide) (cn_iz rfl hz1 hz2 (br_f (by decide) (pk_lt 100 (A 0) (fun z => absurd z (by omega)) (fun _ => ?_) rfl ht))))
  refine cn_ne 6 ?_
  refine cn_spread (s := 0) (most := 5) (cn_e6 b0 bm) ht rfl rfl hc N hA HC (by omega) (by omega) (fun f g h => ?_)
  have e : f (nI (6 * nd 0 + nd m) - nI (6 * nd 0 + nd m) / 6 * 6).toNatClampNeg = nI 1000000 := by
    refine cn_at (cn_m6 b0 bm) (by omega) ?_
    rw [h.1 m (Nat.le_refl m), show cn_F 0 5 A m = A m from if_pos ⟨by omega, by omega⟩, hN]
  exact cn_ne 6 ⟨pk_in (nd m) 6 bm (cn_m6 b0 bm), nm_r e (pk_le 1000000 1000000 (fun _ => br_t rfl (H f g)) (fun z => absurd z (by omega)))⟩
/-- ready at r at node 0, which no contact leaves -/
def cn_Ac (r : Nat) : Nat → Nat
  | 0 => r
  | _ + 1 => 1000000
theorem cn_CI_can {m sz r : Nat} {a1 a4 a5 a6 a7 a8 : Nat → Int32} (hm : m ≤ 10) (h1 : ¬ a1 0 = 0) : cn_CI m sz (cn_Ac r) a1 a4 a5 a6 a7 a8 := by
  intro k hk p c b t rc a2 a3 a9 a10 a11 a12 a13 a14 a15 a16 a17 a18 a19 a20 a21 hp
  cases k with
  | zero => exact cn_ciC rfl (by omega) h1 hp
  | succ k => exact cn_ciN rfl rfl (by omega) hp
theorem cn_Ac_b {r : Nat} (h : r ≤ 1000000) : ∀ j, cn_Ac r j ≤ 1000000 := by
  intro j
  cases j with
  | zero => exact h
  | succ j => exact Nat.le_refl _
/-- no booking of bundle 1 is open -/
theorem cn_ob1 {post : Int32 → Prop} {c b t rc : Int32} {a1 a2 a3 a4 a5 a6 a7 a8 a9 a10 a11 a12 a13 a14 a15 a16 a17 a18 a19 a20 a21 : Nat → Int32} {m sz tn k : Nat} {nd B rt dl : Nat → Nat} {p0 p1 : Int32} (K : cn_Bk m sz nd B rt dl c b a2 a3 a6 a7 a9 a11 a13 a15 a16 a17) (h0 : p0 = nI 1) (h1 : p1 = nI k) (hk : k < m) (ht : t = nI tn) (htn : tn < 1000000) (hO : ∀ k, k < m → B k + cn_nx sz rt k ≤ tn) (hB : ∀ i k, i < m → k < m → B i + cn_nx sz rt k < 1000000)
    (hp : post (-1)) : wpX_openBooking post (c, b, t, rc, a1, a2, a3, a4, a5, a6, a7, a8, a9, a10, a11, a12, a13, a14, a15, a16, a17, a18, a19, a20, a21) p0 p1 := by
  obtain ⟨k1, k2, k3, k4, k5, k6, k7, k8, k9, k10, k11, k12, k13, k14, k15, k16⟩ := K
  subst h0 h1
  have hm := k3.1
  have e15 : a15 (nI 1).toNatClampNeg = nI m := cn_at rfl (by omega) k11
  have e11 : a11 (nI 1).toNatClampNeg = nI sz := cn_at rfl (by omega) k7
  refine pk_loop (σ := Unit) (fun n i _ => wX_openBooking_2 post (nI 1) (nI k) c b t rc a1 a2 a3 a4 a5 a6 a7 a8 a9 a10 a11 a12 a13 a14 a15 a16 a17 a18 a19 a20 a21 n (nI i)) (fun _ _ => True) m 0 () (by omega) trivial (fun n _ _ => ?_) (fun n i _ hi _ hw => ?_)
  · exact ⟨pk_in 1 10 (by omega), pk_le m m (fun _ => hp) (fun z => absurd z (by omega)) e15⟩
  · have hBi := hB i k hi hk
    have ex : (100 : Int32) * nI 1 + nI i = nI (100 * 1 + i) := cn_100 1 i
    have e16 : a16 (100 * nI 1 + nI i).toNatClampNeg = nI i := cn_at ex (by omega) (k12 i hi)
    have e17 : a17 (100 * nI 1 + nI i).toNatClampNeg + nI (cn_nx sz rt k) = nI (B i + cn_nx sz rt k) := by
      rw [cn_at (f := a17) ex (by omega) (k13 i hi), nI_add]
    refine ⟨pk_in 1 10 (by omega), pk_le m i (fun z => absurd z (by omega)) (fun _ => ⟨pk_in (100 * 1 + i) 1000 (by omega) ex, pk_in 1 10 (by omega), cn_tk rfl e11 (by omega) (k4 k hk) (k16 k) k15 ?_⟩) e15⟩
    refine pk_le (B i + cn_nx sz rt k) tn (fun z => ?_) (fun z => ?_) e17 ht
    · exact ⟨pk_in (100 * 1 + i) 1000 (by omega) ex, pk_eq i k (fun _ => br_t rfl (nm_r (nI_1 i) (hw () trivial))) (fun _ => nm_r (nI_1 i) (hw () trivial)) e16⟩
    · have hOk := hO k hk
      exact ⟨pk_in (100 * 1 + i) 1000 (by omega) ex, pk_eq i k (fun e => absurd z (by rw [e]; omega)) (fun _ => nm_r (nI_1 i) (hw () trivial)) e16⟩
theorem cn_ob0 {post : Int32 → Prop} {c b t rc : Int32} {a1 a2 a3 a4 a5 a6 a7 a8 a9 a10 a11 a12 a13 a14 a15 a16 a17 a18 a19 a20 a21 : Nat → Int32} {p0 p1 : Int32} (h0 : p0 = nI 0) (h15 : a15 0 = nI 0) (hp : post (-1)) : wpX_openBooking post (c, b, t, rc, a1, a2, a3, a4, a5, a6, a7, a8, a9, a10, a11, a12, a13, a14, a15, a16, a17, a18, a19, a20, a21) p0 p1 := by
  subst h0
  exact ⟨1, pk_in 0 10 (by omega), pk_le 0 0 (fun _ => hp) (fun z => absurd z (by omega)) (cn_at rfl (by omega) h15)⟩
/-- retry: bundle 0 finds no route, bundle 1 is routed -/
theorem cn_rt2 {post : St2 → Prop} {c b t rc : Int32} {a1 a2 a3 a4 a5 a6 a7 a8 a9 a10 a11 a12 a13 a14 a15 a16 a17 a18 a19 a20 a21 : Nat → Int32} {m sz tn : Nat} {nd B rt dl : Nat → Nat} (K : cn_Bk m sz nd B rt dl c b a2 a3 a6 a7 a9 a11 a13 a15 a16 a17) (h10 : a10 0 = nI (nd m)) (h11 : a11 0 = nI sz) (ht : t = nI tn) (htn : tn < 1000000) (h1 : ¬ a1 0 = 0)
    (H : ∀ f13 f g, f13 0 = 0 → ¬ f13 1 = 0 → post (c, b, t, rc, a1, a2, a3, a4, a5, a6, a7, a8, a9, a10, a11, a12, f13, a14, a15, a16, a17, a18, a19, f, g)) : wpX_retry post (c, b, t, rc, a1, a2, a3, a4, a5, a6, a7, a8, a9, a10, a11, a12, a13, a14, a15, a16, a17, a18, a19, a20, a21) := by
  obtain ⟨k1, k2, k3, k4, k5, k6, k7, k8, k9, k10, k11, k12, k13, k14, k15, k16⟩ := K
  have hm := k3.1
  refine pk_loop (fun n i (p : (Nat → Int32) × (Nat → Int32) × (Nat → Int32)) => wX_retry_2 post n (nI i) c b t rc a1 a2 a3 a4 a5 a6 a7 a8 a9 a10 a11 a12 p.1 a14 a15 a16 a17 a18 a19 p.2.1 p.2.2) (fun i p => p.1 0 = 0 ∧ ¬ p.1 1 = 0) 2 0 (a13, a20, a21) (by omega) ⟨k8, k9⟩ ?_ ?_
  · intro n p h
    exact pk_le 2 2 (fun _ => H p.1 p.2.1 p.2.2 h.1 h.2) (fun z => absurd z (by omega)) k2
  · intro n i p hi h hw
    refine pk_le 2 i (fun z => absurd z (by omega)) (fun _ => ⟨pk_in i 10 (by omega), ?_⟩) k2
    by_cases e : i = 0
    · subst e
      refine br_t (cn_at rfl (by omega) h.1) (cn_pl0 (A := cn_Ac tn) rfl (by omega) k10 k6 h10 h11 k14 ht k1 k3 (cn_Ac_b (by omega)) (cn_CI_can (by omega) h1) ?_ (fun f g => nm_r (nI_1 0) (hw (upd p.1 0 0, f, g) ⟨show upd p.1 0 0 0 = 0 from pk_us, ?_⟩)))
      · obtain ⟨q, rfl⟩ : ∃ q, m = q + 1 := ⟨m - 1, by omega⟩
        rfl
      · show ¬ upd p.1 0 0 1 = 0
        rw [pk_un (by decide)]
        exact h.2
    · have e1 : i = 1 := by omega
      subst e1
      refine br_f (by rw [nI_clamp (by omega)]; exact h.2) (nm_r (nI_1 1) (hw p h))
theorem cn_cancel {post : Int32 → St2 → Prop} {c b t rc : Int32} {a1 a2 a3 a4 a5 a6 a7 a8 a9 a10 a11 a12 a13 a14 a15 a16 a17 a18 a19 a20 a21 : Nat → Int32} {m sz tn k : Nat} {nd B rt dl : Nat → Nat} {p0 : Int32} (h0 : p0 = nI k) (hk : k < m) (K : cn_Bk m sz nd B rt dl c b a2 a3 a6 a7 a9 a11 a13 a15 a16 a17) (h10 : a10 0 = nI (nd m)) (h11 : a11 0 = nI sz) (ht : t = nI tn) (htn : tn < 1000000) (hO : ∀ k, k < m → B k + cn_nx sz rt k ≤ tn) (hB : ∀ i k, i < m → k < m → B i + cn_nx sz rt k < 1000000)
    (h1 : a1 k = 0) (h1' : k = 0 ∨ ¬ a1 0 = 0) (H : ∀ f13 f14 f g, f13 0 = 0 → ¬ f13 1 = 0 → post 0 (c, b, t, rc, (upd a1 k 1), a2, a3, a4, a5, a6, a7, a8, a9, a10, a11, a12, f13, f14, a15, a16, a17, a18, a19, f, g)) : wpX_cancel post (c, b, t, rc, a1, a2, a3, a4, a5, a6, a7, a8, a9, a10, a11, a12, a13, a14, a15, a16, a17, a18, a19, a20, a21) p0 := by
  have K' := K
  obtain ⟨k1, k2, k3, k4, k5, k6, k7, k8, k9, k10, k11, k12, k13, k14, k15, k16⟩ := K
  subst h0
  have hm := k3.1
  have h1n : ¬ upd a1 k 1 0 = 0 := by
    by_cases e : k = 0
    · rw [e, pk_us]
      decide
    · rw [pk_un (fun z => e z.symm)]
      exact h1'.resolve_left e
  unfold wpX_cancel
  dsimp only
  refine cn_ic rfl k1 (by omega) hk (br_f (by decide) ⟨pk_in k 10 (by omega), br_t (cn_at rfl (by omega) h1) ⟨pk_in k 10 (by omega), nm_r (cn_up rfl rfl) ?_⟩⟩)
  have last : ∀ f14, (∀ j, j < 2 → f14 j = 0) → ∃ fu, wX_cancel_85 post 0 fu 0 c b t rc (upd a1 k 1) a2 a3 a4 a5 a6 a7 a8 a9 a10 a11 a12 a13 f14 a15 a16 a17 a18 a19 a20 a21 := by
    intro f14 h14
    refine pk_loop (σ := Unit) (fun n i _ => wX_cancel_85 post 0 n (nI i) c b t rc (upd a1 k 1) a2 a3 a4 a5 a6 a7 a8 a9 a10 a11 a12 a13 f14 a15 a16 a17 a18 a19 a20 a21) (fun _ _ => True) 2 0 () (by omega) trivial (fun n _ _ => ?_) (fun n i _ hi _ hw => ?_)
    · exact pk_le 2 2 (fun _ => cn_rt2 K' h10 h11 ht htn h1n (fun f13 f g q0 q1 => H f13 f14 f g q0 q1)) (fun z => absurd z (by omega)) k2
    · exact pk_le 2 i (fun z => absurd z (by omega)) (fun _ => ⟨pk_in i 10 (by omega), br_t (cn_at rfl (by omega) (h14 i hi)) (nm_r (nI_1 i) (hw () trivial))⟩) k2
  refine pk_loop (fun n i f14 => wX_cancel_30 post (nI k) n 0 (nI i) c b t rc (upd a1 k 1) a2 a3 a4 a5 a6 a7 a8 a9 a10 a11 a12 a13 f14 a15 a16 a17 a18 a19 a20 a21) (fun i f14 => ∀ j, j < i → f14 j = 0) 2 0 a14 (by omega) (fun j hj => absurd hj (by omega)) ?_ ?_
  · intro n f14 h
    exact pk_le 2 2 (fun _ => last f14 h) (fun z => absurd z (by omega)) k2
  · intro n i f14 hi h hw
    refine pk_le 2 i (fun z => absurd z (by omega)) (fun _ => ?_) k2
    have fin : wX_cancel_61 post (wX_cancel_30 post (nI k) n) (nI k) 0 (nI i) (-1) 0 (nI i) c b t rc (upd a1 k 1) a2 a3 a4 a5 a6 a7 a8 a9 a10 a11 a12 a13 f14 a15 a16 a17 a18 a19 a20 a21 :=
      ⟨pk_in i 10 (by omega), nm_r (cn_up rfl cn_nb0) (br_t (by decide) (nm_r (nI_1 i) (hw _ (cn_fill (f := fun _ => 0) rfl h rfl))))⟩
    by_cases e : i = 0
    · subst e
      exact cn_ob0 rfl k10 (br_t (by decide) fin)
    · have e1 : i = 1 := by omega
      subst e1
      exact cn_ob1 K' rfl rfl hk ht htn hO hB (br_t (by decide) fin)
end
section
/-! the law: the numbers of a script; its last loop, and its walk along the route -/
theorem cn_rate (z : Int32) : ∃ rt : Nat → Nat, (∀ i, 1 ≤ rt i ∧ rt i ≤ 8) ∧ ∀ (post : Int32 → Prop) (i : Nat), post (nI (rt i)) → wpL_rate post () z (nI i) := by
  refine ⟨fun i => 1 + (z >>> ((3 * nI i) &&& 31)).toBitVec.toNat % 2 ^ 3, fun i => by dsimp only; omega, fun post i hp => ?_⟩
  have e : (1 : Int32) + ((z >>> ((3 * nI i) &&& 31)) &&& 7) = nI (1 + (z >>> ((3 * nI i) &&& 31)).toBitVec.toNat % 2 ^ 3) := by
    rw [pk_and _ 3 (by decide)]
    exact nI_add 1 _
  show post ((1 : Int32) + ((z >>> ((3 * nI i) &&& 31)) &&& 7))
  rw [e]
  exact hp
theorem cn_delay (z : Int32) : ∃ dl : Nat → Nat, (∀ i, dl i ≤ 7) ∧ ∀ (post : Int32 → Prop) (i : Nat), post (nI (dl i)) → wpL_delay post () z (nI i) := by
  refine ⟨fun i => (z >>> ((3 * nI i) &&& 31)).toBitVec.toNat % 2 ^ 3, fun i => by dsimp only; omega, fun post i hp => ?_⟩
  have e : ((z >>> ((3 * nI i) &&& 31)) &&& 7) = nI ((z >>> ((3 * nI i) &&& 31)).toBitVec.toNat % 2 ^ 3) := pk_and _ 3 (by decide)
  show post ((z >>> ((3 * nI i) &&& 31)) &&& 7)
  rw [e]
  exact hp
theorem cn_node (x : Int32) : ∃ nd : Nat → Nat, (∀ i, nd i < 6) ∧ (∀ i j, i ≤ 5 → j ≤ 5 → nd i = nd j → i = j) ∧ ∀ (post : Int32 → Prop) (i : Nat) (p1 : Int32), p1 = nI i → i ≤ 1000 → post (nI (nd i)) → wpL_node post () x p1 := by
  obtain ⟨h, hh, e⟩ := pk_andE (x >>> ((1 : Int32) &&& 31)) (m := 7) 3 (by decide)
  have key : ∀ r : Nat, r ≤ 5 → ∀ (post : Int32 → Prop) (i : Nat), i ≤ 1000 → post (nI ((i * r + h) % 6)) → wL_node_12 post x (nI r) (nI i) := by
    intro r hr post i hi hp
    have hir : i * r ≤ 1000 * 5 := Nat.mul_le_mul hi hr
    have ev : nI i * nI r + ((x >>> ((1 : Int32) &&& 31)) &&& 7) = nI (i * r + h) := by rw [e, pk_mul, nI_add]
    refine cn_ne 6 ?_
    rw [cn_rem (d := 6) (y := 6) ev rfl (by omega) (by omega) (by omega)]
    exact hp
  by_cases e0 : x &&& 1 = 0
  · refine ⟨fun i => (i * 1 + h) % 6, fun i => Nat.mod_lt _ (by omega), fun i j hi hj z => by dsimp only at z; omega, fun post i p1 h1 hi hp => ?_⟩
    subst h1
    exact br_t e0 (key 1 (by omega) post i hi hp)
  · refine ⟨fun i => (i * 5 + h) % 6, fun i => Nat.mod_lt _ (by omega), fun i j hi hj z => by dsimp only at z; omega, fun post i p1 h1 hi hp => ?_⟩
    subst h1
    exact br_f e0 (key 5 (by omega) post i hi hp)
/-- the picture of a script -/
def cn_L (x0 x1 x2 : Int32) (m W sz : Nat) (nd rt dl : Nat → Nat) : Prop :=
  cn_P m W sz nd rt dl ∧ (∀ (post : Int32 → Prop) (i : Nat) (p1 : Int32), p1 = nI i → i ≤ 1000 → post (nI (nd i)) → wpL_node post () x0 p1) ∧ (∀ (post : Int32 → Prop) (i : Nat), post (nI (rt i)) → wpL_rate post () x2 (nI i)) ∧ ∀ (post : Int32 → Prop) (i : Nat), post (nI (dl i)) → wpL_delay post () x1 (nI i)
/-- the numbers of one step -/
theorem cn_nums {m W sz : Nat} {nd rt dl : Nat → Nat} (P : cn_P m W sz nd rt dl) (i : Nat) : cn_T W sz rt dl i ≤ cn_B W sz rt dl i ∧ cn_T W sz rt dl (i + 1) = cn_B W sz rt dl i + cn_nx sz rt i + dl i ∧ 1 ≤ cn_nx sz rt i ∧ cn_nx sz rt i ≤ 30 ∧ dl i ≤ 7 ∧ cn_B W sz rt dl i ≤ 44 * i ∧ cn_T W sz rt dl i ≤ 44 * i ∧ (i ≤ 5 → W * i ≤ 35 ∧ cn_B W sz rt dl i ≤ cn_T W sz rt dl i + 35) := by
  obtain ⟨p1, p2, p3, p4, p5, p6, p7, p8, p9⟩ := P
  have a := cn_nx_b p4 p5 (p8 i)
  have b := cn_T_b p3 p4 p5 p8 p9 i
  refine ⟨cn_B_ge, rfl, a.1, a.2, p9 i, b.2, b.1, fun hi => ?_⟩
  have h : W * i ≤ 7 * 5 := Nat.mul_le_mul p3 hi
  refine ⟨h, ?_⟩
  unfold cn_B
  omega
theorem cn_mono {m W sz : Nat} {nd rt dl : Nat → Nat} (P : cn_P m W sz nd rt dl) {i j : Nat} (h : i ≤ j) : cn_T W sz rt dl i ≤ cn_T W sz rt dl j := by
  induction j with
  | zero => rw [show i = 0 by omega]; exact Nat.le_refl _
  | succ j ih =>
    by_cases e : i = j + 1
    · rw [e]; exact Nat.le_refl _
    · have := ih (by omega)
      have q := cn_nums P j
      omega
theorem cn_Bk13 {m sz : Nat} {nd B rt dl : Nat → Nat} {c b : Int32} {a2 a3 a6 a7 a9 a11 a13 a15 a16 a17 f13 : Nat → Int32} (K : cn_Bk m sz nd B rt dl c b a2 a3 a6 a7 a9 a11 a13 a15 a16 a17) (h0 : f13 0 = 0) (h1 : ¬ f13 1 = 0) : cn_Bk m sz nd B rt dl c b a2 a3 a6 a7 a9 a11 f13 a15 a16 a17 := by
  obtain ⟨k1, k2, k3, k4, k5, k6, k7, k8, k9, k10, k11, k12, k13, k14, k15, k16⟩ := K
  exact ⟨k1, k2, k3, k4, k5, k6, k7, h0, h1, k10, k11, k12, k13, k14, k15, k16⟩
theorem cn_bT {m W sz : Nat} {nd rt dl : Nat → Nat} (P : cn_P m W sz nd rt dl) : ∀ i, i ≤ 5 → cn_T W sz rt dl i ≤ 220 ∧ cn_B W sz rt dl i ≤ 220 := by
  intro i hi
  have q := cn_nums P i
  omega
/-- at the time of coming in at node i + 1 bundle 1 is there -/
theorem cn_pcT {post : Int32 → Prop} {c b t rc : Int32} {a1 a2 a3 a4 a5 a6 a7 a8 a9 a10 a11 a12 a13 a14 a15 a16 a17 a18 a19 a20 a21 : Nat → Int32} {m W sz i : Nat} {nd rt dl : Nat → Nat} {p0 : Int32} (P : cn_P m W sz nd rt dl) (K : cn_Bk m sz nd (cn_B W sz rt dl) rt dl c b a2 a3 a6 a7 a9 a11 a13 a15 a16 a17) (h0 : p0 = nI 1) (hi : i < m) (ht : t = nI (cn_T W sz rt dl (i + 1))) (hp : post (nI (nd (i + 1)))) : wpX_place post (c, b, t, rc, a1, a2, a3, a4, a5, a6, a7, a8, a9, a10, a11, a12, a13, a14, a15, a16, a17, a18, a19, a20, a21) p0 := by
  have hm : m ≤ 5 := P.2.1
  have bi := cn_bT P (i + 1) (by omega)
  by_cases e : i + 1 < m
  · have q := cn_nums P (i + 1)
    refine cn_pc1 (i := i + 1) K h0 ht (by omega) ?_ e ?_ (by omega) (fun _ => hp) (fun z => absurd z (by omega))
    · intro k hk
      have q1 := cn_nums P k
      omega
    · intro k hk
      have q1 := cn_nums P k
      have q2 := cn_mono P (show k + 1 ≤ i + 1 by omega)
      omega
  · have em : m = i + 1 := by omega
    refine cn_pc2 K h0 ht (by omega) ?_ (by rw [em]; exact hp)
    intro k hk
    have q1 := cn_nums P k
    have q2 := cn_mono P (show k + 1 ≤ i + 1 by omega)
    omega
theorem cn_778 {post : Int32 → St0 → Prop} {mc ms kc ks : Nat} {c b t rc : Int32} {a1 a2 a3 a4 a5 a6 a7 a8 a9 a10 a11 a12 a13 a14 a15 a16 a17 a18 a19 a20 a21 : Nat → Int32} {m W sz s : Nat} {nd rt dl : Nat → Nat} {x0 x1 x2 : Int32} (LL : cn_L x0 x1 x2 m W sz nd rt dl) (hp : post 1 ()) (K : cn_Bk m sz nd (cn_B W sz rt dl) rt dl c b a2 a3 a6 a7 a9 a11 a13 a15 a16 a17) (h10 : a10 0 = nI (nd m)) (h11 : a11 0 = nI sz) (h1 : ∀ k, k < m → a1 k = 0) (ht : t = nI (cn_T W sz rt dl m)) (hs0 : 0 < s) (hs : s < 64) :
    ∃ fu, wL_lawOf_778 post mc ms x0 (nI m) (nI sz) (nI s) kc ks fu 0 c b t rc a1 a2 a3 a4 a5 a6 a7 a8 a9 a10 a11 a12 a13 a14 a15 a16 a17 a18 a19 a20 a21 := by
  obtain ⟨P, HN, HR, HD⟩ := LL
  have hm1 := P.1
  have hm : m ≤ 5 := P.2.1
  have hz1 := P.2.2.2.1
  have hz2 := P.2.2.2.2.1
  have nd6 := P.2.2.2.2.2.1
  have bm := cn_bT P m hm
  have hO : ∀ k, k < m → cn_B W sz rt dl k + cn_nx sz rt k ≤ cn_T W sz rt dl m := by
    intro k hk
    have q := cn_nums P k
    have q2 := cn_mono P (show k + 1 ≤ m by omega)
    omega
  have hBB : ∀ i k, i < m → k < m → cn_B W sz rt dl i + cn_nx sz rt k < 1000000 := by
    intro i k hi hk
    have q := cn_nums P k
    have q2 := cn_nums P i
    omega
  have hl : ∀ k, k < m → cn_B W sz rt dl k + cn_nx sz rt k + dl k ≤ cn_T W sz rt dl m := by
    intro k hk
    have q := cn_nums P k
    have q2 := cn_mono P (show k + 1 ≤ m by omega)
    omega
  have hlast : cn_B W sz rt dl (m - 1) + cn_nx sz rt (m - 1) + dl (m - 1) ≤ cn_T W sz rt dl m := hl (m - 1) (by omega)
  refine pk_loop (fun n i (p : (Nat → Int32) × (Nat → Int32) × (Nat → Int32) × (Nat → Int32) × (Nat → Int32)) => wL_lawOf_778 post mc ms x0 (nI m) (nI sz) (nI s) kc ks n (nI i) c b t rc p.1 a2 a3 a4 a5 a6 a7 a8 a9 a10 a11 a12 p.2.1 p.2.2.1 a15 a16 a17 a18 a19 p.2.2.2.1 p.2.2.2.2)
    (fun i p => (∀ k, k < m → i ≤ k → p.1 k = 0) ∧ (0 < i → ¬ p.1 0 = 0) ∧ p.2.1 0 = 0 ∧ ¬ p.2.1 1 = 0) m 0 (a1, a13, a14, a20, a21) (by omega) ⟨fun k hk _ => h1 k hk, fun z => absurd z (by omega), K.2.2.2.2.2.2.2.1, K.2.2.2.2.2.2.2.2.1⟩ ?_ ?_
  · intro n p h
    have K' := cn_Bk13 (f13 := p.2.1) K h.2.2.1 h.2.2.2
    have k2 := K.2.1
    have k11 := K.2.2.2.2.2.2.2.2.2.2.1
    have b0 := nd6 0
    have hsh := cn_sh (nd 0) b0
    refine pk_le m m (fun _ => ?_) (fun z => absurd z (by omega))
    refine cn_st1 K' rfl ht (by omega) (by omega) (fun z => absurd z (by omega)) (fun _ => br_t rfl ?_)
    refine cn_hops rfl k2 k11 (br_t rfl ?_)
    refine cn_pc2 K' rfl ht (by omega) hl (HN _ m _ rfl (by omega) (br_t rfl (HN _ 0 _ rfl (by omega) ?_)))
    refine cn_rea2 (A := cn_Ac (cn_T W sz rt dl m)) (by' := 999) rfl rfl rfl (by omega) hz1 hz2 ht K.1 K.2.2.1 (cn_Ac_b (by omega)) (cn_CI_can (by omega) (h.2.1 (by omega))) (show cn_T W sz rt dl m ≤ 999 by omega) ?_ (fun f g => HN _ 0 _ rfl (by omega) (br_t hsh.1.symm (br_f ?_ hp)))
    · intro j hj
      obtain ⟨q, rfl⟩ : ∃ q, j = q + 1 := ⟨j - 1, by omega⟩
      rfl
    · exact nI_nle hs0 (by omega)
  · intro n i p hi h hw
    have K' := cn_Bk13 (f13 := p.2.1) K h.2.2.1 h.2.2.2
    refine pk_le m i (fun z => absurd z (by omega)) (fun _ => ?_)
    refine cn_cancel rfl hi K' h10 h11 ht (by omega) hO hBB (h.1 i hi (Nat.le_refl i)) ?_ (fun f13 f14 f g q0 q1 => br_t rfl (cn_bkC rfl K.1 (by omega) hi ?_ (br_t rfl (nm_r (nI_1 i) (hw (upd p.1 i 1, f13, f14, f, g) ⟨?_, ?_, q0, q1⟩)))))
    · by_cases e : i = 0
      · exact Or.inl e
      · exact Or.inr (h.2.1 (by omega))
    · rw [pk_us]
      decide
    · intro k hk hik
      show upd p.1 i 1 k = 0
      rw [pk_un (by omega)]
      exact h.1 k hk (by omega)
    · intro _
      show ¬ upd p.1 i 1 0 = 0
      by_cases e : i = 0
      · rw [e, pk_us]
        decide
      · rw [pk_un (by omega)]
        exact h.2.1 (by omega)
end
section
/-! the law's walk along the route (loop 414) -/
theorem cn_701 {post : Int32 → St0 → Prop} {mc ms kc ks : Nat} {J : Int32 → Int32 → Int32 → Int32 → Int32 → Int32 → Int32 → (Nat → Int32) → (Nat → Int32) → (Nat → Int32) → (Nat → Int32) → (Nat → Int32) → (Nat → Int32) → (Nat → Int32) → (Nat → Int32) → (Nat → Int32) → (Nat → Int32) → (Nat → Int32) → (Nat → Int32) → (Nat → Int32) → (Nat → Int32) → (Nat → Int32) → (Nat → Int32) → (Nat → Int32) → (Nat → Int32) → (Nat → Int32) → (Nat → Int32) → (Nat → Int32) → Prop} {c b t rc : Int32} {a1 a2 a3 a4 a5 a6 a7 a8 a9 a10 a11 a12 a13 a14 a15 a16 a17 a18 a19 a20 a21 : Nat → Int32} {m W sz i s : Nat} {nd rt dl : Nat → Nat} {x0 x1 x2 x4 x5 x6 x8 x10 x11 x12 : Int32} (LL : cn_L x0 x1 x2 m W sz nd rt dl) (hi : i < m) (h11 : x11 = nI s) (h12 : x12 = nI i) (hs : s < 64)
    (HJ : ∀ s', 0 < s' → s' < 64 → J x10 (nI s') (nI (i + 1)) c b t rc a1 a2 a3 a4 a5 a6 a7 a8 a9 a10 a11 a12 a13 a14 a15 a16 a17 a18 a19 a20 a21) : wL_lawOf_701 post mc ms J x0 x1 x2 x4 x5 x6 x8 x10 x11 x12 kc ks c b t rc a1 a2 a3 a4 a5 a6 a7 a8 a9 a10 a11 a12 a13 a14 a15 a16 a17 a18 a19 a20 a21 := by
  subst h11 h12
  obtain ⟨P, HN, HR, HD⟩ := LL
  have hm : m ≤ 5 := P.2.1
  have q := cn_or s hs (nd (i + 1)) (P.2.2.2.2.2.1 (i + 1))
  unfold wL_lawOf_701
  exact HN _ (i + 1) _ (nI_1 i) (by omega) (nm_r q.1 (nm_r (nI_1 i) (HJ _ q.2.2 q.2.1)))
theorem cn_673 {post : Int32 → St0 → Prop} {mc ms kc ks : Nat} {J : Int32 → Int32 → Int32 → Int32 → Int32 → Int32 → Int32 → (Nat → Int32) → (Nat → Int32) → (Nat → Int32) → (Nat → Int32) → (Nat → Int32) → (Nat → Int32) → (Nat → Int32) → (Nat → Int32) → (Nat → Int32) → (Nat → Int32) → (Nat → Int32) → (Nat → Int32) → (Nat → Int32) → (Nat → Int32) → (Nat → Int32) → (Nat → Int32) → (Nat → Int32) → (Nat → Int32) → (Nat → Int32) → (Nat → Int32) → (Nat → Int32) → Prop} {c b t rc : Int32} {a1 a2 a3 a4 a5 a6 a7 a8 a9 a10 a11 a12 a13 a14 a15 a16 a17 a18 a19 a20 a21 : Nat → Int32} {m W sz i s tn : Nat} {nd rt dl : Nat → Nat} {x0 x1 x2 x4 x5 x6 x8 x10 x11 x12 : Int32} (LL : cn_L x0 x1 x2 m W sz nd rt dl) (K : cn_Bk m sz nd (cn_B W sz rt dl) rt dl c b a2 a3 a6 a7 a9 a11 a13 a15 a16 a17) (hi : i < m) (h10 : x10 = nI (cn_T W sz rt dl (i + 1))) (h11 : x11 = nI s) (h12 : x12 = nI i) (hs : s < 64) (ht : t = nI tn) (htn : tn + 1 = cn_T W sz rt dl (i + 1))
    (HJ : ∀ s', 0 < s' → s' < 64 → J (nI (cn_T W sz rt dl (i + 1))) (nI s') (nI (i + 1)) c b (nI (cn_T W sz rt dl (i + 1))) rc a1 a2 a3 a4 a5 a6 a7 a8 a9 a10 a11 a12 a13 a14 a15 a16 a17 a18 a19 a20 a21) : wL_lawOf_673 post mc ms J x0 x1 x2 x4 x5 x6 x8 x10 x11 x12 kc ks c b t rc a1 a2 a3 a4 a5 a6 a7 a8 a9 a10 a11 a12 a13 a14 a15 a16 a17 a18 a19 a20 a21 := by
  subst h10 h12
  have P := LL.1
  have HN := LL.2.1
  have hm : m ≤ 5 := P.2.1
  unfold wL_lawOf_673
  refine cn_pass (k := 1) rfl (by omega) ht htn (br_t rfl ?_)
  refine cn_pcT P K rfl hi rfl (HN _ (i + 1) _ (nI_1 i) (by omega) (br_t rfl ?_))
  exact cn_701 LL hi h11 rfl hs HJ
theorem cn_623 {post : Int32 → St0 → Prop} {mc ms kc ks : Nat} {J : Int32 → Int32 → Int32 → Int32 → Int32 → Int32 → Int32 → (Nat → Int32) → (Nat → Int32) → (Nat → Int32) → (Nat → Int32) → (Nat → Int32) → (Nat → Int32) → (Nat → Int32) → (Nat → Int32) → (Nat → Int32) → (Nat → Int32) → (Nat → Int32) → (Nat → Int32) → (Nat → Int32) → (Nat → Int32) → (Nat → Int32) → (Nat → Int32) → (Nat → Int32) → (Nat → Int32) → (Nat → Int32) → (Nat → Int32) → (Nat → Int32) → Prop} {c b t rc : Int32} {a1 a2 a3 a4 a5 a6 a7 a8 a9 a10 a11 a12 a13 a14 a15 a16 a17 a18 a19 a20 a21 : Nat → Int32} {m W sz i s : Nat} {nd rt dl : Nat → Nat} {x0 x1 x2 x4 x5 x6 x8 x10 x11 x12 x14 z0 z1 : Int32} (LL : cn_L x0 x1 x2 m W sz nd rt dl) (K : cn_Bk m sz nd (cn_B W sz rt dl) rt dl c b a2 a3 a6 a7 a9 a11 a13 a15 a16 a17) (hi : i < m) (h10 : x10 = nI (cn_T W sz rt dl (i + 1))) (h11 : x11 = nI s) (h12 : x12 = nI i) (h14 : x14 = nI (cn_B W sz rt dl i)) (hs : s < 64) (ht : t = nI (cn_B W sz rt dl i + 1)) (hzz : z1 = z0)
    (HJ : ∀ s', 0 < s' → s' < 64 → J (nI (cn_T W sz rt dl (i + 1))) (nI s') (nI (i + 1)) c b (nI (cn_T W sz rt dl (i + 1))) rc a1 a2 a3 a4 a5 a6 a7 a8 a9 a10 a11 a12 a13 a14 a15 a16 a17 a18 a19 a20 a21) : wL_lawOf_623 post mc ms J x0 x1 x2 x4 x5 x6 x8 x10 x11 x12 x14 z0 z1 kc ks c b t rc a1 a2 a3 a4 a5 a6 a7 a8 a9 a10 a11 a12 a13 a14 a15 a16 a17 a18 a19 a20 a21 := by
  subst h10 h12 h14
  have P := LL.1
  have hm : m ≤ 5 := P.2.1
  have q := cn_nums P i
  have bi := cn_bT P (i + 1) (by omega)
  have bi' := cn_bT P i (by omega)
  refine br_t hzz (pk_le (cn_T W sz rt dl (i + 1)) (cn_B W sz rt dl i + 1) (fun z => ?_) (fun z => ?_) rfl (nI_1 _))
  · refine cn_701 LL hi h11 rfl hs (fun s' h1 h2 => ?_)
    rw [ht, show cn_B W sz rt dl i + 1 = cn_T W sz rt dl (i + 1) by omega]
    exact HJ s' h1 h2
  · have e : nI (cn_T W sz rt dl (i + 1)) - nI (cn_B W sz rt dl i) - 2 = nI (cn_T W sz rt dl (i + 1) - cn_B W sz rt dl i - 2) := by
      rw [pk_sub (by omega), show (2 : Int32) = nI 2 from rfl, pk_sub (by omega)]
    refine cn_pass (w := cn_T W sz rt dl (i + 1) - 1) e (by omega) ht (by omega) (br_f (nI_pos (by omega)) (pk_le (cn_T W sz rt dl (i + 1)) (cn_B W sz rt dl i + 2) (fun _ => ?_) (fun _ => ?_) rfl (nI_add _ 2)))
    · exact cn_673 (tn := cn_T W sz rt dl (i + 1) - 1) LL K hi rfl h11 rfl hs rfl (by omega) HJ
    · refine cn_pc1 (i := i) (tn := cn_T W sz rt dl (i + 1) - 1) K rfl rfl (by omega) ?_ hi ?_ (by omega) (fun z => absurd z (by omega)) (fun _ => br_t (nI_add 10 i).symm ?_)
      · intro k hk
        have q1 := cn_nums P k
        omega
      · intro k hk
        have q1 := cn_nums P k
        have q2 := cn_mono P (show k + 1 ≤ i by omega)
        omega
      · exact cn_673 (tn := cn_T W sz rt dl (i + 1) - 1) LL K hi rfl h11 rfl hs rfl (by omega) HJ
theorem cn_592 {post : Int32 → St0 → Prop} {mc ms kc ks : Nat} {J : Int32 → Int32 → Int32 → Int32 → Int32 → Int32 → Int32 → (Nat → Int32) → (Nat → Int32) → (Nat → Int32) → (Nat → Int32) → (Nat → Int32) → (Nat → Int32) → (Nat → Int32) → (Nat → Int32) → (Nat → Int32) → (Nat → Int32) → (Nat → Int32) → (Nat → Int32) → (Nat → Int32) → (Nat → Int32) → (Nat → Int32) → (Nat → Int32) → (Nat → Int32) → (Nat → Int32) → (Nat → Int32) → (Nat → Int32) → (Nat → Int32) → Prop} {c b t rc : Int32} {a1 a2 a3 a4 a5 a6 a7 a8 a9 a10 a11 a12 a13 a14 a15 a16 a17 a18 a19 a20 a21 : Nat → Int32} {m W sz i s : Nat} {nd rt dl : Nat → Nat} {x0 x1 x2 x4 x5 x6 x8 x10 x11 x12 x14 z0 z1 : Int32} (LL : cn_L x0 x1 x2 m W sz nd rt dl) (K : cn_Bk m sz nd (cn_B W sz rt dl) rt dl c b a2 a3 a6 a7 a9 a11 a13 a15 a16 a17) (hi : i < m) (h4 : x4 = nI m) (h10 : x10 = nI (cn_T W sz rt dl (i + 1))) (h11 : x11 = nI s) (h12 : x12 = nI i) (h14 : x14 = nI (cn_B W sz rt dl i)) (hs : s < 64) (ht : t = nI (cn_B W sz rt dl i + 1)) (hzz : z1 = z0)
    (HJ : ∀ s', 0 < s' → s' < 64 → J (nI (cn_T W sz rt dl (i + 1))) (nI s') (nI (i + 1)) c b (nI (cn_T W sz rt dl (i + 1))) rc a1 a2 a3 a4 a5 a6 a7 a8 a9 a10 a11 a12 a13 a14 a15 a16 a17 a18 a19 a20 a21) : wL_lawOf_592 post mc ms J x0 x1 x2 x4 x5 x6 x8 x10 x11 x12 x14 z0 z1 kc ks c b t rc a1 a2 a3 a4 a5 a6 a7 a8 a9 a10 a11 a12 a13 a14 a15 a16 a17 a18 a19 a20 a21 := by
  have P := LL.1
  have hm1 := P.1
  have hm : m ≤ 5 := P.2.1
  have q := cn_nums P i
  have bi := cn_bT P (i + 1) (by omega)
  have bi' := cn_bT P i (by omega)
  have bm := cn_bT P m hm
  have em : cn_B W sz rt dl (m - 1) + cn_nx sz rt (m - 1) + dl (m - 1) = cn_T W sz rt dl m := by
    obtain ⟨k, rfl⟩ : ∃ k, m = k + 1 := ⟨m - 1, by omega⟩
    rfl
  have e41 : x4 - 1 = nI (m - 1) := by rw [h4, cn_pr hm1]
  have e141 : x14 + 1 = nI (cn_B W sz rt dl i + 1) := by rw [h14, nI_1]
  have go1 : wL_lawOf_622 post mc ms J x0 x1 x2 x4 x5 x6 x8 x10 x11 x12 x14 1 kc ks c b t rc a1 a2 a3 a4 a5 a6 a7 a8 a9 a10 a11 a12 a13 a14 a15 a16 a17 a18 a19 a20 a21 := cn_623 LL K hi h10 h11 h12 h14 hs ht rfl HJ
  have go2 : wL_lawOf_623 post mc ms J x0 x1 x2 x4 x5 x6 x8 x10 x11 x12 x14 2 2 kc ks c b t rc a1 a2 a3 a4 a5 a6 a7 a8 a9 a10 a11 a12 a13 a14 a15 a16 a17 a18 a19 a20 a21 := cn_623 LL K hi h10 h11 h12 h14 hs ht rfl HJ
  refine br_t hzz (cn_st1 K rfl ht (by omega) (by omega) (fun z => ?_) (fun z => ?_))
  · rw [em] at z
    refine pk_eq i (m - 1) (fun e => pk_eq (cn_T W sz rt dl (i + 1)) (cn_B W sz rt dl i + 1) (fun e2 => ?_) (fun _ => go1) h10 e141) (fun _ => go1) h12 e41
    rw [show i + 1 = m by omega] at e2
    omega
  · rw [em] at z
    refine pk_eq i (m - 1) (fun e => pk_eq (cn_T W sz rt dl (i + 1)) (cn_B W sz rt dl i + 1) (fun _ => go2) (fun e2 => ?_) h10 e141) (fun e => ?_) h12 e41
    · rw [show i + 1 = m by omega] at e2 q
      omega
    · have q1 := cn_nums P (i + 1)
      have q2 := cn_mono P (show i + 1 + 1 ≤ m by omega)
      omega
theorem cn_461 {post : Int32 → St0 → Prop} {mc ms kc ks : Nat} {J : Int32 → Int32 → Int32 → Int32 → Int32 → Int32 → Int32 → (Nat → Int32) → (Nat → Int32) → (Nat → Int32) → (Nat → Int32) → (Nat → Int32) → (Nat → Int32) → (Nat → Int32) → (Nat → Int32) → (Nat → Int32) → (Nat → Int32) → (Nat → Int32) → (Nat → Int32) → (Nat → Int32) → (Nat → Int32) → (Nat → Int32) → (Nat → Int32) → (Nat → Int32) → (Nat → Int32) → (Nat → Int32) → (Nat → Int32) → (Nat → Int32) → Prop} {c b t rc : Int32} {a1 a2 a3 a4 a5 a6 a7 a8 a9 a10 a11 a12 a13 a14 a15 a16 a17 a18 a19 a20 a21 : Nat → Int32} {m W sz i s : Nat} {nd rt dl : Nat → Nat} {x0 x1 x2 x4 x5 x6 x8 x11 x12 x13 z0 : Int32} (LL : cn_L x0 x1 x2 m W sz nd rt dl) (K : cn_Bk m sz nd (cn_B W sz rt dl) rt dl c b a2 a3 a6 a7 a9 a11 a13 a15 a16 a17) (hi : i < m) (h4 : x4 = nI m) (h11 : x11 = nI s) (h12 : x12 = nI i) (h13 : x13 = nI (cn_nx sz rt i)) (hz0 : z0 = nI (cn_B W sz rt dl i)) (hs : s < 64) (ht : t = nI (cn_T W sz rt dl i))
    (h1 : ∀ k, k < m → a1 k = 0) (h8 : ∀ k, k < m → ∀ j, j < 101 → a8 (101 * k + j) = if cn_B W sz rt dl k ≤ j ∧ j < cn_B W sz rt dl k + cn_nx sz rt k then 1 else 0) (hb : ∀ k, k < m → cn_B W sz rt dl k + cn_nx sz rt k ≤ 100)
    (HJ : ∀ s', 0 < s' → s' < 64 → J (nI (cn_T W sz rt dl (i + 1))) (nI s') (nI (i + 1)) c b (nI (cn_T W sz rt dl (i + 1))) rc a1 a2 a3 a4 a5 a6 a7 a8 a9 a10 a11 a12 a13 a14 a15 a16 a17 a18 a19 a20 a21) : wL_lawOf_461 post mc ms J x0 x1 x2 x4 x5 x6 x8 x11 x12 x13 z0 kc ks c b t rc a1 a2 a3 a4 a5 a6 a7 a8 a9 a10 a11 a12 a13 a14 a15 a16 a17 a18 a19 a20 a21 := by
  subst h12 h13 hz0
  have P := LL.1
  have HN := LL.2.1
  have HD := LL.2.2.2
  have hm1 := P.1
  have hm : m ≤ 5 := P.2.1
  have q := cn_nums P i
  have qi := q.2.2.2.2.2.2.2 (by omega)
  have bi := cn_bT P (i + 1) (by omega)
  have bi' := cn_bT P i (by omega)
  have hB : ∀ k, k < m → cn_B W sz rt dl k + cn_nx sz rt k + dl k < 1000000 := by
    intro k hk
    have q1 := cn_nums P k
    omega
  have hl : ∀ k, k < i → cn_B W sz rt dl k + cn_nx sz rt k + dl k ≤ cn_T W sz rt dl i := by
    intro k hk
    have q1 := cn_nums P k
    have q2 := cn_mono P (show k + 1 ≤ i by omega)
    omega
  have hl2 : ∀ w, cn_T W sz rt dl i ≤ w → ∀ k, k < i → cn_B W sz rt dl k + cn_nx sz rt k + dl k ≤ w := fun w hw k hk => Nat.le_trans (hl k hk) hw
  have ehop : nI (1000 * i + cn_B W sz rt dl i) = 1000 * nI i + nI (cn_B W sz rt dl i) := by
    rw [show (1000 : Int32) = nI 1000 from rfl, pk_mul, nI_add]
  have esub : nI (cn_B W sz rt dl i) - t = nI (cn_B W sz rt dl i - cn_T W sz rt dl i) := by rw [ht, pk_sub q.1]
  have ecome : ∀ r : Int32, r = nI (dl i) → nI (cn_B W sz rt dl i) + nI (cn_nx sz rt i) + r = nI (cn_T W sz rt dl (i + 1)) := by
    intro r hr
    rw [hr, nI_add, nI_add, q.2.1]
  unfold wL_lawOf_461
  refine cn_hop1 K rfl rfl hi (br_t ehop ?_)
  refine cn_bkd rfl K.1 (by omega) hi (h1 i hi) (h8 i hi) (hb i hi) (br_t rfl ?_)
  refine pk_lt (cn_B W sz rt dl i) (cn_T W sz rt dl i) (fun z => absurd z (by omega)) (fun _ => ?_) rfl ht
  unfold wpX_time
  dsimp only
  refine cn_pass (w := cn_B W sz rt dl i) esub (by omega) ht (by omega) (br_t rfl ?_)
  refine cn_pc1 (i := i) K rfl rfl (by omega) hB hi (hl2 _ q.1) (by omega) (fun _ => HN _ i _ rfl (by omega) (br_t rfl ?_)) (fun z => absurd z (by omega))
  refine cn_pass (k := 1) (w := cn_B W sz rt dl i + 1) rfl (by omega) rfl rfl (br_t (nI_1 _).symm ?_)
  refine HD _ i (nm_r (ecome _ rfl) ?_)
  by_cases e : cn_T W sz rt dl (i + 1) = cn_B W sz rt dl i + 1
  · refine cn_pcT P K rfl hi (by rw [e]) (pk_eq (cn_T W sz rt dl (i + 1)) (cn_B W sz rt dl i + 1) (fun _ => ?_) (fun z => absurd e z) rfl (nI_1 _))
    refine HN _ (i + 1) _ (nI_1 i) (by omega) ?_
    exact cn_592 LL K hi h4 rfl h11 rfl rfl hs rfl rfl HJ
  · refine cn_pc1 (i := i) (tn := cn_B W sz rt dl i + 1) K rfl rfl (by omega) hB hi (hl2 _ (by omega)) (by omega) (fun z => absurd z (by omega)) (fun _ => pk_eq (cn_T W sz rt dl (i + 1)) (cn_B W sz rt dl i + 1) (fun z => absurd z e) (fun _ => ?_) rfl (nI_1 _))
    exact cn_592 LL K hi h4 rfl h11 rfl rfl hs rfl (nI_add 10 i).symm HJ
/-- the ticks of a step, as the law computes them -/
theorem cn_need {sz i : Nat} {rt : Nat → Nat} (hz : sz ≤ 30) (hr : 1 ≤ rt i ∧ rt i ≤ 8) : (nI sz + nI (rt i) - 1) / nI (rt i) = nI (cn_nx sz rt i) := by
  rw [nI_add, cn_pr (by omega), pk_div (by omega) (by omega) (by omega)]
  rfl
theorem cn_414 {post : Int32 → St0 → Prop} {mc ms kc ks : Nat} {c b t rc : Int32} {a1 a2 a3 a4 a5 a6 a7 a8 a9 a10 a11 a12 a13 a14 a15 a16 a17 a18 a19 a20 a21 : Nat → Int32} {m W sz s : Nat} {nd rt dl : Nat → Nat} {x0 x1 x2 : Int32} (LL : cn_L x0 x1 x2 m W sz nd rt dl) (hp : post 1 ()) (K : cn_Bk m sz nd (cn_B W sz rt dl) rt dl c b a2 a3 a6 a7 a9 a11 a13 a15 a16 a17) (h10 : a10 0 = nI (nd m)) (h11 : a11 0 = nI sz) (h1 : ∀ k, k < m → a1 k = 0) (h8 : ∀ k, k < m → ∀ j, j < 101 → a8 (101 * k + j) = if cn_B W sz rt dl k ≤ j ∧ j < cn_B W sz rt dl k + cn_nx sz rt k then 1 else 0) (hb : ∀ k, k < m → cn_B W sz rt dl k + cn_nx sz rt k ≤ 100) (hs0 : 0 < s) (hs : s < 64) (ht : t = 0) :
    ∃ fu, wL_lawOf_414 post mc ms x0 x1 x2 (nI m) (nI sz) (nI W) (nI (cn_T W sz rt dl m)) kc ks fu 0 (nI s) 0 c b t rc a1 a2 a3 a4 a5 a6 a7 a8 a9 a10 a11 a12 a13 a14 a15 a16 a17 a18 a19 a20 a21 := by
  subst ht
  have P := LL.1
  have HN := LL.2.1
  have HR := LL.2.2.1
  have hm1 := P.1
  have hm : m ≤ 5 := P.2.1
  have hz2 := P.2.2.2.2.1
  have hrt := P.2.2.2.2.2.2.2.1
  have bm := cn_bT P m hm
  have em : cn_B W sz rt dl (m - 1) + cn_nx sz rt (m - 1) + dl (m - 1) = cn_T W sz rt dl m := by
    obtain ⟨k, rfl⟩ : ∃ k, m = k + 1 := ⟨m - 1, by omega⟩
    rfl
  refine pk_loop (fun n i (s : Nat) => wL_lawOf_414 post mc ms x0 x1 x2 (nI m) (nI sz) (nI W) (nI (cn_T W sz rt dl m)) kc ks n (nI (cn_T W sz rt dl i)) (nI s) (nI i) c b (nI (cn_T W sz rt dl i)) rc a1 a2 a3 a4 a5 a6 a7 a8 a9 a10 a11 a12 a13 a14 a15 a16 a17 a18 a19 a20 a21) (fun _ s => 0 < s ∧ s < 64) m 0 s (by omega) ⟨hs0, hs⟩ ?_ ?_
  · intro n s h
    refine pk_le m m (fun _ => ?_) (fun z => absurd z (by omega))
    refine cn_st1 K rfl rfl (by omega) (by omega) (fun z => absurd z (by omega)) (fun _ => br_t rfl ?_)
    refine cn_st0 K rfl (br_t rfl ?_)
    refine cn_pc0 K rfl (HN _ 0 _ rfl (by omega) (br_t rfl ?_))
    refine cn_hopN K rfl rfl (br_t rfl ?_)
    refine br_t rfl ?_
    exact cn_778 LL hp K h10 h11 h1 rfl h.1 h.2
  · intro n i s hi h hw
    refine pk_le m i (fun z => absurd z (by omega)) (fun _ => ?_)
    refine HR _ i (HR _ i ⟨nI_ne0 (hrt i).1 (by have := hrt i; omega), nm_r (cn_need hz2 (hrt i)) ?_⟩)
    have q := cn_nums P i
    have qi := q.2.2.2.2.2.2.2 (by omega)
    have bi := cn_bT P i (by omega)
    have hJ : ∀ s', 0 < s' → s' < 64 → wL_lawOf_414 post mc ms x0 x1 x2 (nI m) (nI sz) (nI W) (nI (cn_T W sz rt dl m)) kc ks n (nI (cn_T W sz rt dl (i + 1))) (nI s') (nI (i + 1)) c b (nI (cn_T W sz rt dl (i + 1))) rc a1 a2 a3 a4 a5 a6 a7 a8 a9 a10 a11 a12 a13 a14 a15 a16 a17 a18 a19 a20 a21 := fun s' z1 z2 => hw s' ⟨z1, z2⟩
    refine pk_le (cn_T W sz rt dl i) (W * i) (fun z => ?_) (fun z => ?_) rfl (pk_mul W i)
    · have e : nI W * nI i = nI (cn_B W sz rt dl i) := by
        rw [pk_mul]
        unfold cn_B
        rw [show max (cn_T W sz rt dl i) (W * i) = W * i by omega]
      exact cn_461 LL K hi rfl rfl rfl rfl e h.2 rfl h1 h8 hb hJ
    · have e : nI (cn_T W sz rt dl i) = nI (cn_B W sz rt dl i) := by
        unfold cn_B
        rw [show max (cn_T W sz rt dl i) (W * i) = cn_T W sz rt dl i by omega]
      exact cn_461 LL K hi rfl rfl rfl rfl e h.2 rfl h1 h8 hb hJ
end
section
/-! the law: sends, the route's times, the contacts -/
theorem cn_Ar_0 {W sz : Nat} {rt dl : Nat → Nat} : cn_Ar W sz rt dl 0 = 0 := if_pos rfl
theorem cn_Ar_b {W sz : Nat} {rt dl : Nat → Nat} (hd : ∀ i, dl i ≤ 7) : ∀ j, cn_Ar W sz rt dl j ≤ 1000000 := by
  intro j
  cases j with
  | zero =>
    rw [cn_Ar_0]
    omega
  | succ j =>
    unfold cn_Ar
    split
    · rename_i h
      have h1 := cn_ok_b h
      have h2 := hd j
      rw [cn_T_S]
      omega
    · exact Nat.le_refl _
theorem cn_309ok {post : Int32 → St0 → Prop} {mc ms kc ks : Nat} {c b t rc : Int32} {a1 a2 a3 a4 a5 a6 a7 a8 a9 a10 a11 a12 a13 a14 a15 a16 a17 a18 a19 a20 a21 : Nat → Int32} {m W sz : Nat} {nd rt dl : Nat → Nat} {x0 x1 x2 x7 x9 z0 z1 : Int32} (LL : cn_L x0 x1 x2 m W sz nd rt dl) (hp : post 1 ()) (K : cn_Bk m sz nd (cn_B W sz rt dl) rt dl c b a2 a3 a6 a7 a9 a11 a13 a15 a16 a17) (h10 : a10 0 = nI (nd m)) (h11 : a11 0 = nI sz) (h1 : ∀ k, k < m → a1 k = 0) (h8 : ∀ k, k < m → ∀ j, j < 101 → a8 (101 * k + j) = if cn_B W sz rt dl k ≤ j ∧ j < cn_B W sz rt dl k + cn_nx sz rt k then 1 else 0) (hb : ∀ k, k < m → cn_B W sz rt dl k + cn_nx sz rt k ≤ 100) (ht : t = 0) (h9 : ¬ x9 = 0) (hzz : z1 = z0) :
    wL_lawOf_309 post mc ms x0 x1 x2 (nI m) (nI sz) (nI W) x7 (nI (cn_T W sz rt dl m)) x9 z0 z1 kc ks c b t rc a1 a2 a3 a4 a5 a6 a7 a8 a9 a10 a11 a12 a13 a14 a15 a16 a17 a18 a19 a20 a21 := by
  have P := LL.1
  have HN := LL.2.1
  have hm1 := P.1
  have hm : m ≤ 5 := P.2.1
  have em : cn_B W sz rt dl (m - 1) + cn_nx sz rt (m - 1) + dl (m - 1) = cn_T W sz rt dl m := by
    obtain ⟨k, rfl⟩ : ∃ k, m = k + 1 := ⟨m - 1, by omega⟩
    rfl
  have hsh := cn_sh (nd 0) (P.2.2.2.2.2.1 0)
  refine br_t hzz (cn_arr K rfl (br_f h9 ?_))
  refine br_t (by rw [em]) (cn_hops rfl K.2.1 K.2.2.2.2.2.2.2.2.2.2.1 (br_f h9 ?_))
  refine br_t rfl (br_f h9 (HN _ 0 _ rfl (by omega) (nm_r hsh.1 ?_)))
  exact cn_414 LL hp K h10 h11 h1 h8 hb hsh.2.2 hsh.2.1 ht
theorem cn_309no {post : Int32 → St0 → Prop} {mc ms kc ks : Nat} {c b t rc : Int32} {a1 a2 a3 a4 a5 a6 a7 a8 a9 a10 a11 a12 a13 a14 a15 a16 a17 a18 a19 a20 a21 : Nat → Int32} {m W sz : Nat} {nd rt dl : Nat → Nat} {x0 x1 x2 x7 x8 x9 z0 z1 : Int32} (LL : cn_L x0 x1 x2 m W sz nd rt dl) (hp : post 1 ()) (h7 : x7 = nI (6 * nd 0 + nd m)) (hc : c = nI m) (hb : b = nI 2) (ht : t = nI 0) (N : cn_N m nd a2 a3) (LV : cn_Live m W rt dl a1 a4 a5 a6 a7 a8) (h13 : a13 1 = 0) (h15 : a15 1 = 0) (hA : cn_Ar W sz rt dl m = 1000000) (h9 : x9 = 0) (hzz : z1 = z0) :
    wL_lawOf_309 post mc ms x0 x1 x2 (nI m) (nI sz) (nI W) x7 x8 x9 z0 z1 kc ks c b t rc a1 a2 a3 a4 a5 a6 a7 a8 a9 a10 a11 a12 a13 a14 a15 a16 a17 a18 a19 a20 a21 := by
  have P := LL.1
  have HN := LL.2.1
  have hm1 := P.1
  have hz1 := P.2.2.2.1
  have hz2 := P.2.2.2.2.1
  have hAb := cn_Ar_b (W := W) (sz := sz) (rt := rt) P.2.2.2.2.2.2.2.2
  have ht' : t = nI (cn_Ar W sz rt dl 0) := by rw [cn_Ar_0]; exact ht
  refine br_t hzz (cn_arN (bd := 1) (nb := 2) rfl hb (by omega) (by omega) h13 (br_t h9 ?_))
  refine br_t rfl (cn_hops rfl hb h15 (br_t h9 ?_))
  refine br_t rfl (br_t h9 (HN _ 0 _ rfl (by omega) ?_))
  refine cn_rea1 (A := cn_Ar W sz rt dl) rfl rfl hz1 hz2 ht' hc N hAb (cn_CI_live P LV) (fun f g s hs => pk_le 64 s (fun z => absurd z (by omega)) (fun _ => ?_))
  exact cn_lat (A := cn_Ar W sz rt dl) h7 rfl hz1 hz2 hm1 ht' (by rw [cn_Ar_0]; omega) hc N hAb (cn_CI_live P LV) hA (fun f g => br_t rfl hp)
/-- the two sends, when there is a route -/
theorem cn_254ok {post : Int32 → St0 → Prop} {mc ms kc ks : Nat} {c b t rc : Int32} {a1 a2 a3 a4 a5 a6 a7 a8 a9 a10 a11 a12 a13 a14 a15 a16 a17 a18 a19 a20 a21 : Nat → Int32} {m W sz : Nat} {nd rt dl : Nat → Nat} {x0 x1 x2 x7 x9 z0 z1 : Int32} (LL : cn_L x0 x1 x2 m W sz nd rt dl) (hp : post 1 ()) (h7 : x7 = nI (6 * nd 0 + nd m)) (hc : c = nI m) (hb : b = nI 0) (ht : t = nI 0) (N : cn_N m nd a2 a3) (LV : cn_Live m W rt dl a1 a4 a5 a6 a7 a8) (hok : cn_ok W sz rt dl m = true) (h9 : ¬ x9 = 0) (hzz : z1 = z0) :
    wL_lawOf_254 post mc ms x0 x1 x2 (nI m) (nI sz) (nI W) x7 (nI (cn_T W sz rt dl m)) x9 z0 z1 kc ks c b t rc a1 a2 a3 a4 a5 a6 a7 a8 a9 a10 a11 a12 a13 a14 a15 a16 a17 a18 a19 a20 a21 := by
  have P := LL.1
  have hm1 := P.1
  have hm : m ≤ 5 := P.2.1
  have hz1 := P.2.2.2.1
  have hz2 := P.2.2.2.2.1
  have hrt := P.2.2.2.2.2.2.2.1
  have b0 := P.2.2.2.2.2.1 0
  have bm := P.2.2.2.2.2.1 m
  have hne : nd 0 ≠ nd m := fun z => absurd (N.2.2.1 0 m (by omega) (by omega) z) (by omega)
  have hAb := cn_Ar_b (W := W) (sz := sz) (rt := rt) P.2.2.2.2.2.2.2.2
  have ht' : t = nI (cn_Ar W sz rt dl 0) := by rw [cn_Ar_0]; exact ht
  have CI := cn_CI_live P LV
  have FB := cn_FB_live P LV hok
  have bT := cn_bT P m hm
  have h6 : ∀ k, k < m → a6 k = nI (rt k) := fun k hk => (LV k hk).2.2.2.1
  have hh7 : ∀ k, k < m → a7 k = nI (dl k) := fun k hk => (LV k hk).2.2.2.2.1
  have hB : ∀ k, k < m → cn_B W sz rt dl k + cn_nx sz rt k ≤ 100 := fun k hk => cn_ok_b (cn_ok_le (show k + 1 ≤ m by omega) hok)
  have eA : ∀ j, j ≤ m → cn_Ar W sz rt dl j = cn_T W sz rt dl j := fun j hj => if_pos (cn_ok_le hj hok)
  have hlt : ∀ j, j ≤ m → cn_Ar W sz rt dl j < 1000000 := by
    intro j hj
    have := cn_bT P j (by omega)
    rw [eA j hj]
    omega
  have hAS : ∀ k, k < m → cn_Ar W sz rt dl (k + 1) = cn_B W sz rt dl k + cn_nx sz rt k + dl k := fun k hk => eA (k + 1) (by omega)
  have eAm := eA m (Nat.le_refl m)
  have em : cn_B W sz rt dl (m - 1) + cn_nx sz rt (m - 1) + dl (m - 1) = cn_T W sz rt dl m := by
    obtain ⟨k, rfl⟩ : ∃ k, m = k + 1 := ⟨m - 1, by omega⟩
    rfl
  have qm := cn_nums P (m - 1)
  refine br_t hzz ?_
  refine cn_send (bd := 0) h7 rfl b0 bm hne hz1 hz2 hb (by omega) (fun Q hQ => ?_)
  refine cn_pl1 (A := cn_Ar W sz rt dl) (B := cn_B W sz rt dl) (lim := cn_T W sz rt dl m - 1) rfl (by omega) pk_us pk_us pk_us pk_us (by rw [pk_us, cn_pr (by omega)]) hm1 ht' hc N hAb CI FB h6 hh7 hrt hz2 hlt hAS (by omega) (fun f18 f19 f g => hQ _ (br_t rfl ?_))
  refine cn_stN (bd := 0) (nb := 1) rfl rfl (by omega) (by omega) pk_us (br_t rfl ?_)
  refine cn_send (bd := 1) h7 rfl b0 bm hne hz1 hz2 rfl (by omega) (fun Q hQ => ?_)
  refine cn_pl2 (A := cn_Ar W sz rt dl) (B := cn_B W sz rt dl) (lim := cn_T W sz rt dl m) rfl (by omega) pk_us pk_us pk_us pk_us pk_us hm1 ht' hc N hAb CI FB h6 hh7 hrt hz2 hlt hAS hB (by omega) (by omega) (fun h8 f15 f16 f17 f18' f19' f' g' B8 HP => hQ _ (br_t rfl ?_))
  obtain ⟨q1, q2, q3, q4⟩ := HP
  have K : cn_Bk m sz nd (cn_B W sz rt dl) rt dl c (nI (1 + 1)) a2 a3 a6 a7 (upd (upd a9 0 (nI (nd 0))) 1 (nI (nd 0))) (upd (upd a11 0 (nI sz)) 1 (nI sz)) (upd (upd (upd a13 0 0) 1 0) 1 1) f15 f16 f17 := by
    refine ⟨hc, rfl, N, h6, hh7, ?_, pk_us, ?_, ?_, ?_, q1, q3, q4, hm1, hz2, hrt⟩
    · rw [pk_un (by decide), pk_us]
    · rw [pk_un (by decide), pk_un (by decide), pk_us]
    · rw [pk_us]
      decide
    · rw [q2 0 (by decide), pk_un (by decide), pk_us]
      rfl
  refine cn_st1 (tn := 0) K rfl ht (by omega) (by omega) (fun _ => br_f h9 ?_) (fun z => absurd z (by omega))
  refine cn_309ok LL hp K ?_ ?_ (fun k hk => (LV k hk).1) ?_ hB ht h9 rfl
  · rw [pk_un (by decide), pk_us]
  · rw [pk_un (by decide), pk_us]
  · intro k hk j hj
    rw [B8 k (by omega) j hj, (LV k hk).2.2.2.2.2 j hj]
    by_cases g : cn_B W sz rt dl k ≤ j ∧ j < cn_B W sz rt dl k + cn_nx sz rt k
    · rw [if_pos ⟨hk, g⟩, if_pos g]
    · rw [if_neg (fun z => g z.2), if_neg g]
/-- the two sends, when there is none -/
theorem cn_254no {post : Int32 → St0 → Prop} {mc ms kc ks : Nat} {c b t rc : Int32} {a1 a2 a3 a4 a5 a6 a7 a8 a9 a10 a11 a12 a13 a14 a15 a16 a17 a18 a19 a20 a21 : Nat → Int32} {m W sz : Nat} {nd rt dl : Nat → Nat} {x0 x1 x2 x7 x8 x9 z0 z1 : Int32} (LL : cn_L x0 x1 x2 m W sz nd rt dl) (hp : post 1 ()) (h7 : x7 = nI (6 * nd 0 + nd m)) (hc : c = nI m) (hb : b = nI 0) (ht : t = nI 0) (N : cn_N m nd a2 a3) (LV : cn_Live m W rt dl a1 a4 a5 a6 a7 a8) (hA : cn_Ar W sz rt dl m = 1000000) (h9 : x9 = 0) (hzz : z1 = z0) :
    wL_lawOf_254 post mc ms x0 x1 x2 (nI m) (nI sz) (nI W) x7 x8 x9 z0 z1 kc ks c b t rc a1 a2 a3 a4 a5 a6 a7 a8 a9 a10 a11 a12 a13 a14 a15 a16 a17 a18 a19 a20 a21 := by
  have P := LL.1
  have hm1 := P.1
  have hm : m ≤ 5 := P.2.1
  have hz1 := P.2.2.2.1
  have hz2 := P.2.2.2.2.1
  have b0 := P.2.2.2.2.2.1 0
  have bm := P.2.2.2.2.2.1 m
  have hne : nd 0 ≠ nd m := fun z => absurd (N.2.2.1 0 m (by omega) (by omega) z) (by omega)
  have hAb := cn_Ar_b (W := W) (sz := sz) (rt := rt) P.2.2.2.2.2.2.2.2
  have ht' : t = nI (cn_Ar W sz rt dl 0) := by rw [cn_Ar_0]; exact ht
  have CI := cn_CI_live P LV
  refine br_t hzz ?_
  refine cn_send (bd := 0) h7 rfl b0 bm hne hz1 hz2 hb (by omega) (fun Q hQ => ?_)
  refine cn_pl0 (A := cn_Ar W sz rt dl) rfl (by omega) pk_us pk_us pk_us pk_us hm1 ht' hc N hAb CI hA (fun f g => hQ _ (br_t rfl ?_))
  refine cn_stN (bd := 0) (nb := 1) rfl rfl (by omega) (by omega) pk_us (br_t rfl ?_)
  refine cn_send (bd := 1) h7 rfl b0 bm hne hz1 hz2 rfl (by omega) (fun Q hQ => ?_)
  refine cn_pl0 (A := cn_Ar W sz rt dl) rfl (by omega) pk_us pk_us pk_us pk_us hm1 ht' hc N hAb CI hA (fun f' g' => hQ _ (br_t rfl ?_))
  refine cn_stN (bd := 1) (nb := 2) rfl rfl (by omega) (by omega) pk_us (br_t h9 ?_)
  exact cn_309no LL hp h7 hc rfl ht N LV pk_us pk_us hA h9 rfl
/-- the law's flag -/
def cn_okI (W sz : Nat) (rt dl : Nat → Nat) (i : Nat) : Int32 := if cn_ok W sz rt dl i = true then 1 else 0
theorem cn_143 {post : Int32 → St0 → Prop} {mc ms kc ks : Nat} {c b t rc : Int32} {a1 a2 a3 a4 a5 a6 a7 a8 a9 a10 a11 a12 a13 a14 a15 a16 a17 a18 a19 a20 a21 : Nat → Int32} {m W sz : Nat} {nd rt dl : Nat → Nat} {x0 x1 x2 x7 : Int32} (LL : cn_L x0 x1 x2 m W sz nd rt dl) (hp : post 1 ()) (h7 : x7 = nI (6 * nd 0 + nd m)) (hc : c = nI m) (hb : b = nI 0) (ht : t = nI 0) (N : cn_N m nd a2 a3) (LV : cn_Live m W rt dl a1 a4 a5 a6 a7 a8) :
    ∃ fu, wL_lawOf_143 post mc ms x0 x1 x2 (nI m) (nI sz) (nI W) x7 kc ks c b t rc a1 a2 a3 a4 a5 a6 a7 a8 a9 a10 a11 a12 a13 a14 a15 a16 a17 a18 a19 a20 a21 fu 0 1 0 := by
  have P := LL.1
  have HR := LL.2.2.1
  have HD := LL.2.2.2
  have hm1 := P.1
  have hm : m ≤ 5 := P.2.1
  have hz1 := P.2.2.2.1
  have hz2 := P.2.2.2.2.1
  have hrt := P.2.2.2.2.2.2.2.1
  have hAb := cn_Ar_b (W := W) (sz := sz) (rt := rt) P.2.2.2.2.2.2.2.2
  have ht' : t = nI (cn_Ar W sz rt dl 0) := by rw [cn_Ar_0]; exact ht
  have CI := cn_CI_live P LV
  have bT := cn_bT P m hm
  refine pk_loop (σ := Unit) (fun n i _ => wL_lawOf_143 post mc ms x0 x1 x2 (nI m) (nI sz) (nI W) x7 kc ks c b t rc a1 a2 a3 a4 a5 a6 a7 a8 a9 a10 a11 a12 a13 a14 a15 a16 a17 a18 a19 a20 a21 n (nI (cn_T W sz rt dl i)) (cn_okI W sz rt dl i) (nI i)) (fun _ _ => True) m 0 () (by omega) trivial (fun n _ _ => ?_) (fun n i _ hi _ hw => ?_)
  · refine pk_le m m (fun _ => ?_) (fun z => absurd z (by omega))
    by_cases hok : cn_ok W sz rt dl m = true
    · have eA : cn_Ar W sz rt dl m = cn_T W sz rt dl m := if_pos hok
      have e9 : ¬ cn_okI W sz rt dl m = 0 := by
        unfold cn_okI
        rw [if_pos hok]
        decide
      refine cn_quote (A := cn_Ar W sz rt dl) h7 rfl hz1 hz2 hm1 ht' hc N hAb CI (fun f g _ => br_f e9 ?_) (fun f g z => absurd z (by omega))
      exact cn_254ok LL hp h7 hc hb ht N LV hok e9 (by rw [eA])
    · have eA : cn_Ar W sz rt dl m = 1000000 := if_neg hok
      have e9 : cn_okI W sz rt dl m = 0 := if_neg hok
      refine cn_quote (A := cn_Ar W sz rt dl) h7 rfl hz1 hz2 hm1 ht' hc N hAb CI (fun f g z => absurd z (by omega)) (fun f g _ => br_t e9 ?_)
      exact cn_254no LL hp h7 hc hb ht N LV eA e9 rfl
  · have q := cn_nums P i
    have qi := q.2.2.2.2.2.2.2 (by omega)
    have bi := cn_bT P i (by omega)
    have hw' := hw () trivial
    have main : ∀ z0, z0 = nI (cn_B W sz rt dl i) → wL_lawOf_190 post mc ms (wL_lawOf_143 post mc ms x0 x1 x2 (nI m) (nI sz) (nI W) x7 kc ks c b t rc a1 a2 a3 a4 a5 a6 a7 a8 a9 a10 a11 a12 a13 a14 a15 a16 a17 a18 a19 a20 a21 n) x0 x1 x2 (nI m) (nI sz) (nI W) x7 (cn_okI W sz rt dl i) (nI i) (nI (cn_nx sz rt i)) z0 kc ks c b t rc a1 a2 a3 a4 a5 a6 a7 a8 a9 a10 a11 a12 a13 a14 a15 a16 a17 a18 a19 a20 a21 := by
      intro z0 hz0
      subst hz0
      have e8 : nI (cn_B W sz rt dl i) + nI (cn_nx sz rt i) + nI (dl i) = nI (cn_T W sz rt dl (i + 1)) := by rw [nI_add, nI_add, q.2.1]
      have fin : ∀ v, v = cn_okI W sz rt dl (i + 1) → wL_lawOf_212 post mc ms (wL_lawOf_143 post mc ms x0 x1 x2 (nI m) (nI sz) (nI W) x7 kc ks c b t rc a1 a2 a3 a4 a5 a6 a7 a8 a9 a10 a11 a12 a13 a14 a15 a16 a17 a18 a19 a20 a21 n) x0 x1 x2 (nI m) (nI sz) (nI W) x7 (nI i) (nI (cn_nx sz rt i)) (nI (cn_B W sz rt dl i)) v kc ks c b t rc a1 a2 a3 a4 a5 a6 a7 a8 a9 a10 a11 a12 a13 a14 a15 a16 a17 a18 a19 a20 a21 := by
        intro v hv
        unfold wL_lawOf_212
        refine HD _ i (nm_r e8 (nm_r (nI_1 i) ?_))
        rw [hv]
        exact hw'
      by_cases hok : cn_ok W sz rt dl i = true
      · refine br_f (by unfold cn_okI; rw [if_pos hok]; decide) (pk_lt 100 (cn_B W sz rt dl i + cn_nx sz rt i) (fun z => fin 0 ?_) (fun z => fin 1 ?_) rfl (nI_add _ _))
        · refine (if_neg (fun e => ?_)).symm
          have := cn_ok_b e
          omega
        · refine (if_pos ?_).symm
          unfold cn_ok
          exact Bool.and_eq_true_iff.mpr ⟨hok, decide_eq_true z⟩
      · refine br_t (if_neg hok) (fin 0 (if_neg (fun e => hok (cn_ok_le (by omega) e))).symm)
    refine pk_le m i (fun z => absurd z (by omega)) (fun _ => ?_)
    refine HR _ i (HR _ i ⟨nI_ne0 (hrt i).1 (by have := hrt i; omega), nm_r (cn_need hz2 (hrt i)) ?_⟩)
    refine pk_le (cn_T W sz rt dl i) (W * i) (fun z => main _ ?_) (fun z => main _ ?_) rfl (pk_mul W i)
    · rw [pk_mul]
      unfold cn_B
      rw [show max (cn_T W sz rt dl i) (W * i) = W * i by omega]
    · unfold cn_B
      rw [show max (cn_T W sz rt dl i) (W * i) = cn_T W sz rt dl i by omega]
/-- the first i contacts stand -/
def cn_Con (i W : Nat) (nd rt dl : Nat → Nat) (a2 a3 a4 a5 a6 a7 : Nat → Int32) : Prop :=
  ∀ k, k < i → a2 k = nI (nd k) ∧ a3 k = nI (nd (k + 1)) ∧ a4 k = nI (W * k) ∧ a5 k = nI 100 ∧ a6 k = nI (rt k) ∧ a7 k = nI (dl k)
theorem cn_ConS {i W : Nat} {nd rt dl : Nat → Nat} {a2 a3 a4 a5 a6 a7 : Nat → Int32} (h : cn_Con i W nd rt dl a2 a3 a4 a5 a6 a7) : cn_Con (i + 1) W nd rt dl (upd a2 i (nI (nd i))) (upd a3 i (nI (nd (i + 1)))) (upd a4 i (nI (W * i))) (upd a5 i (nI 100)) (upd a6 i (nI (rt i))) (upd a7 i (nI (dl i))) := by
  intro k hk
  by_cases e : k = i
  · subst e
    exact ⟨pk_us, pk_us, pk_us, pk_us, pk_us, pk_us⟩
  · rw [pk_un e, pk_un e, pk_un e, pk_un e, pk_un e, pk_un e]
    exact h k (by omega)
theorem cn_48 {post : Int32 → St0 → Prop} {mc ms kc ks : Nat} {c b t rc : Int32} {a1 a2 a3 a4 a5 a6 a7 a8 a9 a10 a11 a12 a13 a14 a15 a16 a17 a18 a19 a20 a21 : Nat → Int32} {m W sz : Nat} {nd rt dl : Nat → Nat} {x0 x1 x2 : Int32} (LL : cn_L x0 x1 x2 m W sz nd rt dl) (hp : post 1 ()) (hc : c = 0) (hb : b = nI 0) (ht : t = nI 0) (h1 : ∀ k, k < 10 → a1 k = 0) (h8 : ∀ k, k < 1010 → a8 k = 0) :
    ∃ fu, wL_lawOf_48 post mc ms x0 x1 x2 (nI m) (nI sz) (nI W) kc ks fu 0 c b t rc a1 a2 a3 a4 a5 a6 a7 a8 a9 a10 a11 a12 a13 a14 a15 a16 a17 a18 a19 a20 a21 := by
  subst hc
  have P := LL.1
  have HN := LL.2.1
  have HR := LL.2.2.1
  have HD := LL.2.2.2
  have hm1 := P.1
  have hm : m ≤ 5 := P.2.1
  have hrt := P.2.2.2.2.2.2.2.1
  have hdl := P.2.2.2.2.2.2.2.2
  have nd6 := P.2.2.2.2.2.1
  have inj := P.2.2.2.2.2.2.1
  refine pk_loop (fun n i (p : (Nat → Int32) × (Nat → Int32) × (Nat → Int32) × (Nat → Int32) × (Nat → Int32) × (Nat → Int32)) => wL_lawOf_48 post mc ms x0 x1 x2 (nI m) (nI sz) (nI W) kc ks n (nI i) (nI i) b t rc a1 p.1 p.2.1 p.2.2.1 p.2.2.2.1 p.2.2.2.2.1 p.2.2.2.2.2 a8 a9 a10 a11 a12 a13 a14 a15 a16 a17 a18 a19 a20 a21)
    (fun i p => cn_Con i W nd rt dl p.1 p.2.1 p.2.2.1 p.2.2.2.1 p.2.2.2.2.1 p.2.2.2.2.2) m 0 (a2, a3, a4, a5, a6, a7) (by omega) (fun k hk => absurd hk (by omega)) ?_ ?_
  · intro n p h
    have b0 := nd6 0
    have bm := nd6 m
    have e7 : (6 : Int32) * nI (nd 0) + nI (nd m) = nI (6 * nd 0 + nd m) := by
      rw [show (6 : Int32) = nI 6 from rfl, pk_mul, nI_add]
    refine pk_le m m (fun _ => ?_) (fun z => absurd z (by omega))
    refine HN _ 0 _ rfl (by omega) (HN _ m _ rfl (by omega) (nm_r e7 ?_))
    refine cn_143 LL hp rfl rfl hb ht ⟨hm, nd6, inj, fun k hk => ⟨(h k hk).1, (h k hk).2.1⟩⟩ (fun k hk => ⟨h1 k (by omega), (h k hk).2.2.1, (h k hk).2.2.2.1, (h k hk).2.2.2.2.1, (h k hk).2.2.2.2.2, fun j hj => h8 _ (by omega)⟩)
  · intro n i p hi h hw
    have q := cn_nums P i
    have qi := q.2.2.2.2.2.2.2 (by omega)
    have r1 := hrt i
    have d1 := hdl i
    have hne : nd i ≠ nd (i + 1) := fun z => absurd (inj i (i + 1) (by omega) (by omega) z) (by omega)
    have e0 : (6 : Int32) * nI (nd i) + nI (nd (i + 1)) = nI (6 * nd i + nd (i + 1)) := by
      rw [show (6 : Int32) = nI 6 from rfl, pk_mul, nI_add]
    have e1 : (101 : Int32) * (nI W * nI i) + 100 = nI (101 * (W * i) + 100) := by
      rw [pk_mul]
      exact cn_101 (W * i) 100
    have e2 : (10 : Int32) * nI (rt i) + nI (dl i) = nI (10 * rt i + dl i) := by
      rw [show (10 : Int32) = nI 10 from rfl, pk_mul, nI_add]
    refine pk_le m i (fun z => absurd z (by omega)) (fun _ => ?_)
    refine HN _ i _ rfl (by omega) (HN _ (i + 1) _ (nI_1 i) (by omega) (HR _ i (HD _ i ?_)))
    refine cn_contact e0 e1 e2 (nd6 i) (nd6 (i + 1)) hne (by omega) r1.1 r1.2 d1 rfl (by omega) hb (br_t rfl (nm_r (nI_1 i) ?_))
    exact hw (upd p.1 i (nI (nd i)), upd p.2.1 i (nI (nd (i + 1))), upd p.2.2.1 i (nI (W * i)), upd p.2.2.2.1 i (nI 100), upd p.2.2.2.2.1 i (nI (rt i)), upd p.2.2.2.2.2 i (nI (dl i))) (cn_ConS h)
theorem cn_mod (x : Int32) (d : Nat) (D : Int32) (hD : D = nI d) (h0 : 0 < d) (hd : d < 2 ^ 31) : ∃ r, r < d ∧ (1 : Int32) + ((x &&& 255) - (x &&& 255) / D * D) = nI (1 + r) := by
  obtain ⟨h, hh, e⟩ := pk_andE x (m := 255) 8 (by decide)
  refine ⟨h % d, Nat.mod_lt _ h0, ?_⟩
  rw [cn_rem e hD (by omega) h0 hd]
  exact nI_add 1 _
theorem cn_law {post : Int32 → St0 → Prop} (x y z : Int32) (hp : post 1 ()) : wpL_lawOf post 100 10000 () x y z := by
  obtain ⟨nd, nd6, inj, HN⟩ := cn_node x
  obtain ⟨rt, hrt, HR⟩ := cn_rate z
  obtain ⟨dl, hdl, HD⟩ := cn_delay y
  obtain ⟨m', hm', em⟩ := cn_mod (x >>> ((4 : Int32) &&& 31)) 5 5 rfl (by omega) (by omega)
  obtain ⟨s', hs', es⟩ := cn_mod (x >>> ((12 : Int32) &&& 31)) 30 30 rfl (by omega) (by omega)
  obtain ⟨W, hW, eW⟩ := pk_andE (x >>> ((20 : Int32) &&& 31)) (m := 7) 3 (by decide)
  have LL : cn_L x y z (1 + m') W (1 + s') nd rt dl := ⟨⟨by omega, by omega, by omega, by omega, by omega, nd6, inj, hrt, hdl⟩, HN, HR, HD⟩
  refine ⟨by omega, by omega, 21, 3172, by omega, by omega, ?_⟩
  refine ⟨by omega, by omega, by omega, by omega, by omega, by omega, by omega, by omega, by omega, by omega, by omega, by omega, by omega, by omega, by omega, by omega, by omega, by omega, by omega, by omega, by omega, by omega, by omega, by omega, by omega, by omega, by omega, by omega, by omega, by omega, by omega, by omega, by omega, by omega, by omega, by omega, by omega, by omega, by omega, by omega, by omega, by omega, ?_⟩
  exact cn_ne 5 (nm_r em (cn_ne 30 (nm_r es (nm_r eW (cn_48 LL hp rfl rfl rfl (fun _ _ => rfl) (fun _ _ => rfl))))))
end
section
theorem cn_cell {post : Int32 → Prop} {L : Nat} {xs : Nat → Int32} {p1 : Int32} {i : Nat} (h1 : p1 = nI i) (hi : i < 2 ^ 31) (hL : L ≤ 3) (hp : ∀ v, post v) : wpL_cellAt post L xs () p1 := by
  subst h1
  exact pk_le L i (fun _ => hp _) (fun z => ⟨pk_in i L z, hp _⟩)
theorem i_vc (xs : Nat → Int32) (L : Nat) (hL : L ≤ 3) : wpL_law (fun r => r = 1) L xs := by
  unfold wpL_law
  refine cn_cell (i := 0) rfl (by omega) hL (fun x => cn_cell (i := 1) rfl (by omega) hL (fun y => cn_cell (i := 2) rfl (by omega) hL (fun z => ?_)))
  exact ⟨100, 10000, by omega, by omega, cn_law x y z rfl⟩
end
