section
/-! the columns, pure: zeros, group numbers, counts -/
def dr_z (a : Nat → Int32) : Nat → Nat
  | 0 => 0
  | n + 1 => if a n = 0 then dr_z a n + 1 else dr_z a n
def dr_g (a : Nat → Int32) : Nat → Nat
  | 0 => 0
  | n + 1 => if a n = 0 then 0 else if a n = 1 then dr_g a n + 1 else dr_g a n
def dr_c (a : Nat → Int32) : Nat → Nat
  | 0 => 0
  | n + 1 => if a n = 2 then dr_c a n + 1 else dr_c a n
def dr_b (a : Nat → Int32) : Nat → Nat
  | 0 => 0
  | n + 1 => if 2 ≤ a n then dr_b a n else dr_b a n + 1
def dr_n (a : Nat → Int32) : Nat → Nat
  | 0 => 0
  | n + 1 => if a n = 0 then dr_n a n else dr_n a n + 1
theorem dr_z_s (a : Nat → Int32) (n : Nat) : dr_z a (n + 1) = if a n = 0 then dr_z a n + 1 else dr_z a n := rfl
theorem dr_g_s (a : Nat → Int32) (n : Nat) : dr_g a (n + 1) = if a n = 0 then 0 else if a n = 1 then dr_g a n + 1 else dr_g a n := rfl
theorem dr_c_s (a : Nat → Int32) (n : Nat) : dr_c a (n + 1) = if a n = 2 then dr_c a n + 1 else dr_c a n := rfl
theorem dr_b_s (a : Nat → Int32) (n : Nat) : dr_b a (n + 1) = if 2 ≤ a n then dr_b a n else dr_b a n + 1 := rfl
theorem dr_n_s (a : Nat → Int32) (n : Nat) : dr_n a (n + 1) = if a n = 0 then dr_n a n else dr_n a n + 1 := rfl
theorem dr_z_cg {a b : Nat → Int32} : ∀ {i : Nat}, (∀ j, j < i → a j = b j) → dr_z a i = dr_z b i
  | 0, _ => rfl
  | i + 1, h => by rw [dr_z_s, dr_z_s, h i (by omega), dr_z_cg (fun j hj => h j (by omega))]
theorem dr_g_cg {a b : Nat → Int32} : ∀ {i : Nat}, (∀ j, j < i → a j = b j) → dr_g a i = dr_g b i
  | 0, _ => rfl
  | i + 1, h => by rw [dr_g_s, dr_g_s, h i (by omega), dr_g_cg (fun j hj => h j (by omega))]
theorem dr_c_cg {a b : Nat → Int32} : ∀ {i : Nat}, (∀ j, j < i → a j = b j) → dr_c a i = dr_c b i
  | 0, _ => rfl
  | i + 1, h => by rw [dr_c_s, dr_c_s, h i (by omega), dr_c_cg (fun j hj => h j (by omega))]
theorem dr_b_cg {a b : Nat → Int32} : ∀ {i : Nat}, (∀ j, j < i → a j = b j) → dr_b a i = dr_b b i
  | 0, _ => rfl
  | i + 1, h => by rw [dr_b_s, dr_b_s, h i (by omega), dr_b_cg (fun j hj => h j (by omega))]
theorem dr_n_cg {a b : Nat → Int32} : ∀ {i : Nat}, (∀ j, j < i → a j = b j) → dr_n a i = dr_n b i
  | 0, _ => rfl
  | i + 1, h => by rw [dr_n_s, dr_n_s, h i (by omega), dr_n_cg (fun j hj => h j (by omega))]
theorem dr_z_le (a : Nat → Int32) : ∀ i : Nat, dr_z a i ≤ i
  | 0 => Nat.le_refl 0
  | i + 1 => by have := dr_z_le a i; rw [dr_z_s]; split <;> omega
theorem dr_g_le (a : Nat → Int32) : ∀ i : Nat, dr_g a i ≤ i
  | 0 => Nat.le_refl 0
  | i + 1 => by have := dr_g_le a i; rw [dr_g_s]; split <;> (try split) <;> omega
theorem dr_c_le (a : Nat → Int32) : ∀ i : Nat, dr_c a i ≤ i
  | 0 => Nat.le_refl 0
  | i + 1 => by have := dr_c_le a i; rw [dr_c_s]; split <;> omega
theorem dr_b_le (a : Nat → Int32) : ∀ i : Nat, dr_b a i ≤ i
  | 0 => Nat.le_refl 0
  | i + 1 => by have := dr_b_le a i; rw [dr_b_s]; split <;> omega
theorem dr_n_le (a : Nat → Int32) : ∀ i : Nat, dr_n a i ≤ i
  | 0 => Nat.le_refl 0
  | i + 1 => by have := dr_n_le a i; rw [dr_n_s]; split <;> omega
theorem dr_z_mo (a : Nat → Int32) {i : Nat} : ∀ {j : Nat}, i ≤ j → dr_z a i ≤ dr_z a j
  | 0, h => by rw [show i = 0 by omega]; exact Nat.le_refl _
  | j + 1, h => by
    by_cases e : i = j + 1
    · rw [e]; exact Nat.le_refl _
    · have := dr_z_mo a (show i ≤ j by omega); rw [dr_z_s]; split <;> omega
theorem dr_c_mo (a : Nat → Int32) {i : Nat} : ∀ {j : Nat}, i ≤ j → dr_c a i ≤ dr_c a j
  | 0, h => by rw [show i = 0 by omega]; exact Nat.le_refl _
  | j + 1, h => by
    by_cases e : i = j + 1
    · rw [e]; exact Nat.le_refl _
    · have := dr_c_mo a (show i ≤ j by omega); rw [dr_c_s]; split <;> omega
theorem dr_b_mo (a : Nat → Int32) {i : Nat} : ∀ {j : Nat}, i ≤ j → dr_b a i ≤ dr_b a j
  | 0, h => by rw [show i = 0 by omega]; exact Nat.le_refl _
  | j + 1, h => by
    by_cases e : i = j + 1
    · rw [e]; exact Nat.le_refl _
    · have := dr_b_mo a (show i ≤ j by omega); rw [dr_b_s]; split <;> omega
theorem dr_n_mo (a : Nat → Int32) {i : Nat} : ∀ {j : Nat}, i ≤ j → dr_n a i ≤ dr_n a j
  | 0, h => by rw [show i = 0 by omega]; exact Nat.le_refl _
  | j + 1, h => by
    by_cases e : i = j + 1
    · rw [e]; exact Nat.le_refl _
    · have := dr_n_mo a (show i ≤ j by omega); rw [dr_n_s]; split <;> omega
theorem dr_c_lt {a : Nat → Int32} {i j : Nat} (h : i < j) (e : a i = 2) : dr_c a i < dr_c a j := by
  have := dr_c_mo a (show i + 1 ≤ j from h)
  rw [dr_c_s, if_pos e] at this
  omega
theorem dr_b_lt {a : Nat → Int32} {i j : Nat} (h : i < j) (e : ¬ 2 ≤ a i) : dr_b a i < dr_b a j := by
  have := dr_b_mo a (show i + 1 ≤ j from h)
  rw [dr_b_s, if_neg e] at this
  omega
theorem dr_n_lt {a : Nat → Int32} {i j : Nat} (h : i < j) (e : ¬ a i = 0) : dr_n a i < dr_n a j := by
  have := dr_n_mo a (show i + 1 ≤ j from h)
  rw [dr_n_s, if_neg e] at this
  omega
/-- the r-th zero is met -/
theorem dr_z_hit {a : Nat → Int32} {r : Nat} : ∀ {n : Nat}, r < dr_z a n → ∃ e, e < n ∧ a e = 0 ∧ dr_z a e = r
  | 0, h => absurd h (Nat.not_lt_zero r)
  | n + 1, h => by
    by_cases e : a n = 0
    · rw [dr_z_s, if_pos e] at h
      by_cases h2 : r < dr_z a n
      · obtain ⟨x, h3, h4⟩ := dr_z_hit h2
        exact ⟨x, by omega, h4⟩
      · exact ⟨n, by omega, e, by omega⟩
    · rw [dr_z_s, if_neg e] at h
      obtain ⟨x, h3, h4⟩ := dr_z_hit h
      exact ⟨x, by omega, h4⟩
/-- a run of ones behind an entry -/
theorem dr_run {a : Nat → Int32} {e k Z : Nat} (h1 : ∀ j, 0 < j → j < k → a (e + j) = 1) (hz : dr_z a (e + 1) = Z) (hg : dr_g a (e + 1) = 0) :
    ∀ j, j < k → dr_z a (e + j + 1) = Z ∧ dr_g a (e + j + 1) = j
  | 0, _ => ⟨hz, hg⟩
  | j + 1, hj => by
    have ih := dr_run h1 hz hg j (by omega)
    have h := h1 (j + 1) (by omega) hj
    have hn : ¬ a (e + (j + 1)) = 0 := by rw [h]; decide
    constructor
    · rw [dr_z_s, if_neg hn]; exact ih.1
    · rw [dr_g_s, if_neg hn, if_pos h]
      show dr_g a (e + j + 1) + 1 = j + 1
      rw [ih.2]
/-- how far a run goes -/
theorem dr_far (P : Nat → Prop) (e n : Nat) (h : e < n) : ∃ k, 0 < k ∧ e + k ≤ n ∧ (∀ j, 0 < j → j < k → P (e + j)) ∧ (e + k = n ∨ (e + k < n ∧ ¬ P (e + k))) := by
  obtain ⟨k, hk, hl⟩ := pk_least (fun k => 0 < k ∧ (e + k = n ∨ (e + k < n ∧ ¬ P (e + k)))) ⟨n - e, by omega, Or.inl (by omega)⟩
  have hle : e + k ≤ n := by
    rcases hk.2 with z | z
    · omega
    · omega
  refine ⟨k, hk.1, hle, fun j h0 hj => ?_, hk.2⟩
  have := hl j hj
  exact Classical.byContradiction (fun hp => this ⟨h0, Or.inr ⟨by omega, hp⟩⟩)
theorem dr_c_run {a : Nat → Int32} {e : Nat} : ∀ {k : Nat}, (∀ j, j < k → a (e + j) = 2) → dr_c a (e + k) = dr_c a e + k
  | 0, _ => rfl
  | k + 1, h => by
    have ih := dr_c_run (k := k) (fun j hj => h j (by omega))
    show dr_c a (e + k + 1) = _
    rw [dr_c_s, if_pos (h k (by omega)), ih]
    omega
/-! small counters less one -/
theorem dr_ms (z : Nat) : nI z + (-1) + 1 = nI (z + 1) + (-1) := by
  rw [← nI_1]; grind
theorem dr_m0 (z : Nat) : nI z + (-1) + 0 = nI z + (-1) := by grind
theorem dr_a0 (x : Int32) : x + 0 = x := by grind
theorem dr_mq {z r : Nat} (hz : z < 2 ^ 30) (hr : r < 2 ^ 30) : nI z + (-1) = nI r ↔ z = r + 1 := by
  constructor
  · intro h
    have : nI z = nI (r + 1) := by rw [← nI_1, ← h]; grind
    exact (nI_eq (by omega) (by omega)).mp this
  · intro h
    rw [h]; exact pk_m1 r
theorem dr_mm {z r : Nat} (hz : z < 2 ^ 30) (hr : r < 2 ^ 30) : nI z + (-1) = nI r + (-1) ↔ z = r := by
  constructor
  · intro h
    have : nI z = nI r := by grind
    exact (nI_eq (by omega) (by omega)).mp this
  · intro h
    rw [h]
theorem dr_mle {z E : Nat} (hz : z < 2 ^ 30) (hE : E < 2 ^ 30) : nI E ≤ nI z + (-1) ↔ E < z := by
  cases z with
  | zero =>
    constructor
    · intro h
      have h1 : (nI E).toInt ≤ (nI 0 + (-1)).toInt := Int32.le_iff_toInt_le.mp h
      rw [nI_toInt (by omega)] at h1
      have h2 : (nI 0 + (-1)).toInt = -1 := by decide
      omega
    · intro h; omega
  | succ w =>
    rw [pk_m1, nI_leI (by omega) (by omega)]
    omega
end
section
/-! findTag and findValue: the first entry of a group -/
section
variable {post : St1 → Prop} {J18 : Int32 → Int32 → Int32 → Int32 → Prop} {io bg en nc te tc ve vc og ov gc fo pa : Int32} {a1 a2 a3 a4 a5 a6 a7 a8 : Nat → Int32}
theorem dr_ft63 {r g Z G i c : Nat} (hi : i < 52) (hZ : Z < 1000) (hG : G < 1000) (hr : r < 1000) (hg : g < 1000)
    (h1 : Z = r + 1 ∧ G = g → post (io, bg, en, nc, te, tc, ve, vc, og, ov, gc, nI i, nI c, a1, a2, a3, a4, a5, a6, a7, a8))
    (h2 : ¬ (Z = r + 1 ∧ G = g) → J18 (nI Z + (-1)) (nI G) (nI (i + 1)) (nI (if a4 i = 2 then c + 1 else c))) :
    wX_findTag_63 post J18 (nI r) (nI g) (nI Z + (-1)) (nI i) (nI G) io bg en nc te tc ve vc og ov gc fo (nI c) a1 a2 a3 a4 a5 a6 a7 a8 := by
  have k83 : ¬ (Z = r + 1 ∧ G = g) → wX_findTag_83 post J18 (nI r) (nI g) (nI Z + (-1)) (nI G) (nI i) io bg en nc te tc ve vc og ov gc fo (nI c) a1 a2 a3 a4 a5 a6 a7 a8 := by
    intro hn
    have h := h2 hn
    unfold wX_findTag_83
    rw [nI_clamp (show i < 2 ^ 31 by omega)]
    refine ⟨pk_in i 52 hi, ?_⟩
    by_cases h4 : a4 i = 2
    · rw [if_pos h4] at h
      exact br_t h4 (nm_r (nI_1 c) (nm_r (nI_1 i) h))
    · rw [if_neg h4] at h
      exact br_f h4 (nm_r (dr_a0 _) (nm_r (nI_1 i) h))
  unfold wX_findTag_63
  by_cases hz : Z = r + 1
  · refine br_t ((dr_mq (by omega) (by omega)).mpr hz) ?_
    by_cases hgg : G = g
    · exact br_t (by rw [hgg]) (h1 ⟨hz, hgg⟩)
    · exact br_f (fun e => hgg ((nI_eq (by omega) (by omega)).mp e)) (k83 (fun z => hgg z.2))
  · exact br_f (fun e => hz ((dr_mq (by omega) (by omega)).mp e)) (k83 (fun z => hz z.1))
theorem dr_ft {r g e nT : Nat} (hT : nT ≤ 52) (he : e < nT) (tt : ∀ j, j ≤ e → a3 j = 0 ∨ a3 j = 1) (hr : r < 1000) (hg : g < 1000)
    (hz : dr_z a3 (e + 1) = r + 1) (hgg : dr_g a3 (e + 1) = g) (hm : ∀ j, j < e → ¬ (dr_z a3 (j + 1) = r + 1 ∧ dr_g a3 (j + 1) = g))
    (H : post (io, bg, en, nc, nI nT, tc, ve, vc, og, ov, gc, nI e, nI (dr_c a4 e), a1, a2, a3, a4, a5, a6, a7, a8)) :
    ∀ n i : Nat, i ≤ e → e < n + i → wX_findTag_18 post (nI r) (nI g) io bg en nc (nI nT) tc ve vc og ov gc fo a1 a2 a3 a4 a5 a6 a7 a8 n (nI (dr_z a3 i) + (-1)) (nI (dr_g a3 i)) (nI i) (nI (dr_c a4 i)) := by
  intro n
  induction n with
  | zero => intro i h1 h2; omega
  | succ n ih =>
    intro i h1 h2
    have zl := dr_z_le a3 (i + 1)
    have gl := dr_g_le a3 (i + 1)
    have K : wX_findTag_63 post (wX_findTag_18 post (nI r) (nI g) io bg en nc (nI nT) tc ve vc og ov gc fo a1 a2 a3 a4 a5 a6 a7 a8 n) (nI r) (nI g) (nI (dr_z a3 (i + 1)) + (-1)) (nI i) (nI (dr_g a3 (i + 1))) io bg en nc (nI nT) tc ve vc og ov gc fo (nI (dr_c a4 i)) a1 a2 a3 a4 a5 a6 a7 a8 := by
      refine dr_ft63 (by omega) (by omega) (by omega) hr hg (fun hh => ?_) (fun hh => ?_)
      · have e1 : i = e := by
          rcases Nat.lt_or_ge i e with z | z
          · exact absurd hh (hm i z)
          · omega
        rw [e1]; exact H
      · have e1 : i < e := by
          rcases Nat.lt_or_ge i e with z | z
          · exact z
          · have e2 : i = e := by omega
            rw [e2] at hh
            exact absurd ⟨hz, hgg⟩ hh
        exact ih (i + 1) (by omega) (by omega)
    refine pk_le nT i (fun z => absurd z (by omega)) (fun _ => ⟨pk_in i 52 (by omega), ?_⟩)
    rw [nI_clamp (show i < 2 ^ 31 by omega)]
    rcases tt i h1 with h0 | h0
    · rw [dr_z_s, if_pos h0, dr_g_s, if_pos h0] at K
      refine br_t h0 ?_
      unfold wX_findTag_43
      rw [nI_clamp (show i < 2 ^ 31 by omega)]
      exact nm_r (dr_ms _) ⟨pk_in i 52 (by omega), br_t h0 K⟩
    · have hn : ¬ a3 i = 0 := by rw [h0]; decide
      rw [dr_z_s, if_neg hn, dr_g_s, if_neg hn, if_pos h0] at K
      refine br_f hn ?_
      unfold wX_findTag_43
      rw [nI_clamp (show i < 2 ^ 31 by omega), nI_1]
      exact nm_r (dr_m0 _) ⟨pk_in i 52 (by omega), br_f hn K⟩
theorem dr_fv79 {r g Z G i c : Nat} (hi : i < 112) (hZ : Z < 1000) (hG : G < 1000) (hr : r < 1000) (hg : g < 1000)
    (h1 : Z = r + 1 ∧ G = g → post (io, bg, en, nc, te, tc, ve, vc, og, ov, gc, nI i, nI c, a1, a2, a3, a4, a5, a6, a7, a8))
    (h2 : ¬ (Z = r + 1 ∧ G = g) → J18 (nI Z + (-1)) (nI G) (nI (i + 1)) (nI (if a7 i = 2 then c + 1 else c))) :
    wX_findValue_79 post J18 (nI r) (nI g) (nI Z + (-1)) (nI i) (nI G) io bg en nc te tc ve vc og ov gc fo (nI c) a1 a2 a3 a4 a5 a6 a7 a8 := by
  have k83 : ¬ (Z = r + 1 ∧ G = g) → wX_findValue_99 post J18 (nI r) (nI g) (nI Z + (-1)) (nI G) (nI i) io bg en nc te tc ve vc og ov gc fo (nI c) a1 a2 a3 a4 a5 a6 a7 a8 := by
    intro hn
    have h := h2 hn
    unfold wX_findValue_99
    rw [nI_clamp (show i < 2 ^ 31 by omega)]
    refine ⟨pk_in i 112 hi, ?_⟩
    by_cases h4 : a7 i = 2
    · rw [if_pos h4] at h
      exact br_t h4 (nm_r (nI_1 c) (nm_r (nI_1 i) h))
    · rw [if_neg h4] at h
      exact br_f h4 (nm_r (dr_a0 _) (nm_r (nI_1 i) h))
  unfold wX_findValue_79
  by_cases hz : Z = r + 1
  · refine br_t ((dr_mq (by omega) (by omega)).mpr hz) ?_
    by_cases hgg : G = g
    · exact br_t (by rw [hgg]) (h1 ⟨hz, hgg⟩)
    · exact br_f (fun e => hgg ((nI_eq (by omega) (by omega)).mp e)) (k83 (fun z => hgg z.2))
  · exact br_f (fun e => hz ((dr_mq (by omega) (by omega)).mp e)) (k83 (fun z => hz z.1))
theorem dr_fv {r g e nV : Nat} (hT : nV ≤ 112) (he : e < nV) (hr : r < 1000) (hg : g < 1000)
    (hz : dr_z a6 (e + 1) = r + 1) (hgg : dr_g a6 (e + 1) = g) (hm : ∀ j, j < e → ¬ (dr_z a6 (j + 1) = r + 1 ∧ dr_g a6 (j + 1) = g))
    (H : post (io, bg, en, nc, te, tc, nI nV, vc, og, ov, gc, nI e, nI (dr_c a7 e), a1, a2, a3, a4, a5, a6, a7, a8)) :
    ∀ n i : Nat, i ≤ e → e < n + i → wX_findValue_18 post (nI r) (nI g) io bg en nc te tc (nI nV) vc og ov gc fo a1 a2 a3 a4 a5 a6 a7 a8 n (nI (dr_z a6 i) + (-1)) (nI (dr_g a6 i)) (nI i) (nI (dr_c a7 i)) := by
  intro n
  induction n with
  | zero => intro i h1 h2; omega
  | succ n ih =>
    intro i h1 h2
    have zl := dr_z_le a6 (i + 1)
    have gl := dr_g_le a6 (i + 1)
    have K : wX_findValue_79 post (wX_findValue_18 post (nI r) (nI g) io bg en nc te tc (nI nV) vc og ov gc fo a1 a2 a3 a4 a5 a6 a7 a8 n) (nI r) (nI g) (nI (dr_z a6 (i + 1)) + (-1)) (nI i) (nI (dr_g a6 (i + 1))) io bg en nc te tc (nI nV) vc og ov gc fo (nI (dr_c a7 i)) a1 a2 a3 a4 a5 a6 a7 a8 := by
      refine dr_fv79 (by omega) (by omega) (by omega) hr hg (fun hh => ?_) (fun hh => ?_)
      · have e1 : i = e := by
          rcases Nat.lt_or_ge i e with z | z
          · exact absurd hh (hm i z)
          · omega
        rw [e1]; exact H
      · have e1 : i < e := by
          rcases Nat.lt_or_ge i e with z | z
          · exact z
          · have e2 : i = e := by omega
            rw [e2] at hh
            exact absurd ⟨hz, hgg⟩ hh
        exact ih (i + 1) (by omega) (by omega)
    refine pk_le nV i (fun z => absurd z (by omega)) (fun _ => ⟨pk_in i 112 (by omega), ?_⟩)
    rw [nI_clamp (show i < 2 ^ 31 by omega)]
    by_cases h0 : a6 i = 0
    · rw [dr_z_s, if_pos h0, dr_g_s, if_pos h0] at K
      refine br_t h0 ?_
      unfold wX_findValue_43
      rw [nI_clamp (show i < 2 ^ 31 by omega)]
      exact nm_r (dr_ms _) ⟨pk_in i 112 (by omega), br_t h0 K⟩
    · refine br_f h0 ?_
      unfold wX_findValue_43
      rw [nI_clamp (show i < 2 ^ 31 by omega), nI_1]
      refine nm_r (dr_m0 _) ⟨pk_in i 112 (by omega), br_f h0 ⟨pk_in i 112 (by omega), ?_⟩⟩
      by_cases h1 : a6 i = 1
      · rw [dr_z_s, if_neg h0, dr_g_s, if_neg h0, if_pos h1] at K
        exact br_t h1 K
      · rw [dr_z_s, if_neg h0, dr_g_s, if_neg h0, if_neg h1] at K
        exact br_f h1 K
end
end
section
/-! the frozen prefix of the columns, and states that agree with it -/
def dr_VV (a6 a7 : Nat → Int32) (n : Nat) : Prop := ∀ j, j < n → (a6 j = 0 ∨ a6 j = 1 ∨ (a6 j = 2 ∧ a7 j = 2)) ∧ (a7 j = 2 ∨ ¬ 2 ≤ a7 j)
def dr_Fz (E pT pV : Nat) (A3 A4 A6 A7 : Nat → Int32) : Prop :=
  (E ≤ 12 ∧ pT ≤ 52 ∧ pV ≤ 112) ∧ dr_z A3 pT = E ∧ dr_z A6 pV = E ∧ dr_b A6 pV = pT ∧ (∀ j, j < pT → A3 j = 0 ∨ A3 j = 1) ∧ dr_VV A6 A7 pV ∧ dr_c A4 pT ≤ 40 ∧ dr_c A7 pV ≤ 60 ∧
  (∀ t, t < pT → ∃ e, e < pV ∧ dr_z A6 (e + 1) = dr_z A3 (t + 1) ∧ dr_g A6 (e + 1) = dr_g A3 (t + 1))
def dr_Ag (E pT pV : Nat) (A1 A2 A3 A4 A5 A6 A7 A8 : Nat → Int32) (E' nT nV : Nat) (a1 a2 a3 a4 a5 a6 a7 a8 : Nat → Int32) : Prop :=
  (E ≤ E' ∧ E' ≤ 12 ∧ pT ≤ nT ∧ nT ≤ 52 ∧ pV ≤ nV ∧ nV ≤ 112) ∧ (pT < nT → a3 pT = 0) ∧ (pV < nV → a6 pV = 0) ∧
  (∀ j, j < E → a1 j = A1 j) ∧ (∀ j, j < dr_n A1 E → a2 j = A2 j) ∧ (∀ j, j < pT → a3 j = A3 j) ∧ (∀ j, j < pT → a4 j = A4 j) ∧ (∀ j, j < dr_c A4 pT → a5 j = A5 j) ∧
  (∀ j, j < pV → a6 j = A6 j) ∧ (∀ j, j < pV → a7 j = A7 j) ∧ (∀ j, j < dr_c A7 pV → a8 j = A8 j)
/-- every state that agrees with the picture answers y; found and passed alone change -/
def dr_Ans (E pT pV : Nat) (A1 A2 A3 A4 A5 A6 A7 A8 : Nat → Int32) (W : (Int32 → St1 → Prop) → St1 → Prop) (y : Int32) : Prop :=
  ∀ (E' nT nV : Nat) (a1 a2 a3 a4 a5 a6 a7 a8 : Nat → Int32), dr_Ag E pT pV A1 A2 A3 A4 A5 A6 A7 A8 E' nT nV a1 a2 a3 a4 a5 a6 a7 a8 →
    ∀ (io bg nc tc vc og ov gc f p : Int32) (post : Int32 → St1 → Prop), (∀ f' p' : Int32, post y (io, bg, nI E', nc, nI nT, tc, nI nV, vc, og, ov, gc, f', p', a1, a2, a3, a4, a5, a6, a7, a8)) →
      W post (io, bg, nI E', nc, nI nT, tc, nI nV, vc, og, ov, gc, f, p, a1, a2, a3, a4, a5, a6, a7, a8)
/-- .. for a walk that leaves found and passed at known places -/
def dr_Fnd (E pT pV : Nat) (A1 A2 A3 A4 A5 A6 A7 A8 : Nat → Int32) (W : (St1 → Prop) → St1 → Prop) (x y : Int32) : Prop :=
  ∀ (E' nT nV : Nat) (a1 a2 a3 a4 a5 a6 a7 a8 : Nat → Int32), dr_Ag E pT pV A1 A2 A3 A4 A5 A6 A7 A8 E' nT nV a1 a2 a3 a4 a5 a6 a7 a8 →
    ∀ (io bg nc tc vc og ov gc f p : Int32) (post : St1 → Prop), post (io, bg, nI E', nc, nI nT, tc, nI nV, vc, og, ov, gc, x, y, a1, a2, a3, a4, a5, a6, a7, a8) →
      W post (io, bg, nI E', nc, nI nT, tc, nI nV, vc, og, ov, gc, f, p, a1, a2, a3, a4, a5, a6, a7, a8)
theorem dr_m10 : nI 0 + (-1) = (-1 : Int32) := by decide
section
variable {E pT pV : Nat} {A1 A2 A3 A4 A5 A6 A7 A8 : Nat → Int32}
theorem dr_isE {post : Int32 → Prop} {io bg nc te tc ve vc og ov gc f p : Int32} {a1 a2 a3 a4 a5 a6 a7 a8 : Nat → Int32} {r E' : Nat} (hr : r < E') (hE : E' ≤ 12) (H : post 1) :
    wpX_isEnded post (io, bg, nI E', nc, te, tc, ve, vc, og, ov, gc, f, p, a1, a2, a3, a4, a5, a6, a7, a8) (nI r) :=
  br_f (nI_pos (by omega)) (br_f (nI_ge hr (by omega)) H)
theorem dr_fT (fz : dr_Fz E pT pV A3 A4 A6 A7) {r g : Nat} (hr : r < 1000) (hg : g < 1000) (h : ∃ t, t < pT ∧ dr_z A3 (t + 1) = r + 1 ∧ dr_g A3 (t + 1) = g) :
    ∃ e, e < pT ∧ dr_z A3 (e + 1) = r + 1 ∧ dr_g A3 (e + 1) = g ∧ dr_Fnd E pT pV A1 A2 A3 A4 A5 A6 A7 A8 (fun post u => wpX_findTag post u (nI r) (nI g)) (nI e) (nI (dr_c A4 e)) := by
  obtain ⟨e, ⟨h1, h2, h3⟩, hl⟩ := pk_least _ h
  refine ⟨e, h1, h2, h3, ?_⟩
  intro E' nT nV a1 a2 a3 a4 a5 a6 a7 a8 ag io bg nc tc vc og ov gc f p post H
  obtain ⟨⟨hE1, hE2, hT1, hT2, hV1, hV2⟩, _, _, g1, g2, g3, g4, g5, g6, g7, g8⟩ := ag
  obtain ⟨_, _, _, _, tt, _⟩ := fz
  have ez : ∀ j, j ≤ e → dr_z a3 (j + 1) = dr_z A3 (j + 1) := fun j hj => dr_z_cg (fun k hk => g3 k (by omega))
  have eg : ∀ j, j ≤ e → dr_g a3 (j + 1) = dr_g A3 (j + 1) := fun j hj => dr_g_cg (fun k hk => g3 k (by omega))
  have ec : dr_c a4 e = dr_c A4 e := dr_c_cg (fun k hk => g4 k (by omega))
  have K := dr_ft (io := io) (bg := bg) (en := nI E') (nc := nc) (tc := tc) (ve := nI nV) (vc := vc) (og := og) (ov := ov) (gc := gc) (fo := 0) (a1 := a1) (a2 := a2) (a3 := a3) (a4 := a4) (a5 := a5) (a6 := a6) (a7 := a7) (a8 := a8) (post := post) (r := r) (g := g) (nT := nT) (e := e) hT2 (by omega) (fun j hj => ?_) hr hg ?_ ?_ (fun j hj => ?_) ?_ (e + 1) 0 (by omega) (by omega)
  · rw [show dr_z a3 0 = 0 from rfl, dr_m10] at K
    exact ⟨e + 1, K⟩
  · rw [g3 j (by omega)]; exact tt j (by omega)
  · rw [ez e (by omega)]; exact h2
  · rw [eg e (by omega)]; exact h3
  · rw [ez j (by omega), eg j (by omega)]
    exact fun z => hl j hj ⟨by omega, z⟩
  · rw [ec]; exact H
theorem dr_fV (fz : dr_Fz E pT pV A3 A4 A6 A7) {r g : Nat} (hr : r < 1000) (hg : g < 1000) (h : ∃ t, t < pV ∧ dr_z A6 (t + 1) = r + 1 ∧ dr_g A6 (t + 1) = g) :
    ∃ e, e < pV ∧ dr_z A6 (e + 1) = r + 1 ∧ dr_g A6 (e + 1) = g ∧ dr_Fnd E pT pV A1 A2 A3 A4 A5 A6 A7 A8 (fun post u => wpX_findValue post u (nI r) (nI g)) (nI e) (nI (dr_c A7 e)) := by
  obtain ⟨e, ⟨h1, h2, h3⟩, hl⟩ := pk_least _ h
  refine ⟨e, h1, h2, h3, ?_⟩
  intro E' nT nV a1 a2 a3 a4 a5 a6 a7 a8 ag io bg nc tc vc og ov gc f p post H
  obtain ⟨⟨hE1, hE2, hT1, hT2, hV1, hV2⟩, _, _, g1, g2, g3, g4, g5, g6, g7, g8⟩ := ag
  have ez : ∀ j, j ≤ e → dr_z a6 (j + 1) = dr_z A6 (j + 1) := fun j hj => dr_z_cg (fun k hk => g6 k (by omega))
  have eg : ∀ j, j ≤ e → dr_g a6 (j + 1) = dr_g A6 (j + 1) := fun j hj => dr_g_cg (fun k hk => g6 k (by omega))
  have ec : dr_c a7 e = dr_c A7 e := dr_c_cg (fun k hk => g7 k (by omega))
  have K := dr_fv (io := io) (bg := bg) (en := nI E') (nc := nc) (te := nI nT) (tc := tc) (vc := vc) (og := og) (ov := ov) (gc := gc) (fo := 0) (a1 := a1) (a2 := a2) (a3 := a3) (a4 := a4) (a5 := a5) (a6 := a6) (a7 := a7) (a8 := a8) (post := post) (r := r) (g := g) (nV := nV) (e := e) hV2 (by omega) hr hg ?_ ?_ (fun j hj => ?_) ?_ (e + 1) 0 (by omega) (by omega)
  · rw [show dr_z a6 0 = 0 from rfl, dr_m10] at K
    exact ⟨e + 1, K⟩
  · rw [ez e (by omega)]; exact h2
  · rw [eg e (by omega)]; exact h3
  · rw [ez j (by omega), eg j (by omega)]
    exact fun z => hl j hj ⟨by omega, z⟩
  · rw [ec]; exact H
end
section
variable {post : Int32 → St1 → Prop} {io bg en nc te tc ve vc og ov gc fo pa : Int32} {a1 a2 a3 a4 a5 a6 a7 a8 : Nat → Int32}
theorem dr_g39 {e k nT : Nat} (hT : nT ≤ 52) (hk : e + k ≤ nT) (h1 : ∀ j, 0 < j → j < k → ¬ a3 (e + j) ≤ 0) (h2 : e + k < nT → a3 (e + k) ≤ 0)
    (H : post (nI k) (io, bg, en, nc, nI nT, tc, ve, vc, og, ov, gc, fo, pa, a1, a2, a3, a4, a5, a6, a7, a8)) :
    ∀ n i : Nat, 0 < i → i ≤ k → k < n + i → wX_groups_39 post io bg en nc (nI nT) tc ve vc og ov gc fo pa a1 a2 a3 a4 a5 a6 a7 a8 n (nI i) (nI (e + i)) := by
  intro n
  induction n with
  | zero => intro i h1 h2 h3; omega
  | succ n ih =>
    intro i i0 ik kn
    refine pk_le nT (e + i) (fun z => ?_) (fun z => ⟨pk_in (e + i) 52 (by omega), ?_⟩)
    · have : i = k := by omega
      rw [this]; exact H
    · rw [nI_clamp (show e + i < 2 ^ 31 by omega)]
      by_cases hik : i = k
      · rw [hik] at z ⊢
        exact br_t (h2 z) H
      · exact br_f (h1 i i0 (by omega)) (nm_r (nI_1 i) (nm_r (nI_1 (e + i)) (ih (i + 1) (by omega) (by omega) (by omega))))
theorem dr_v42 {e k nV : Nat} (hT : nV ≤ 112) (hk : e + k ≤ nV) (h1 : ∀ j, 0 < j → j < k → a6 (e + j) = 2) (h2 : e + k < nV → ¬ a6 (e + k) = 2)
    (H : post (nI k) (io, bg, en, nc, te, tc, nI nV, vc, og, ov, gc, fo, pa, a1, a2, a3, a4, a5, a6, a7, a8)) :
    ∀ n i : Nat, 0 < i → i ≤ k → k < n + i → wX_values_42 post io bg en nc te tc (nI nV) vc og ov gc fo pa a1 a2 a3 a4 a5 a6 a7 a8 n (nI i) (nI (e + i)) := by
  intro n
  induction n with
  | zero => intro i h1 h2 h3; omega
  | succ n ih =>
    intro i i0 ik kn
    refine pk_le nV (e + i) (fun z => ?_) (fun z => ⟨pk_in (e + i) 112 (by omega), ?_⟩)
    · have : i = k := by omega
      rw [this]; exact H
    · rw [nI_clamp (show e + i < 2 ^ 31 by omega)]
      by_cases hik : i = k
      · rw [hik] at z ⊢
        exact br_f (h2 z) H
      · exact br_t (h1 i i0 (by omega)) (nm_r (nI_1 i) (nm_r (nI_1 (e + i)) (ih (i + 1) (by omega) (by omega) (by omega))))
end
end
section
/-! the reading methods over the frozen prefix -/
section
variable {E pT pV : Nat} {A1 A2 A3 A4 A5 A6 A7 A8 : Nat → Int32}
/-- groups -/
theorem dr_gr (fz : dr_Fz E pT pV A3 A4 A6 A7) {r : Nat} (hr : r < E) :
    ∃ y : Nat, y ≤ 52 ∧ (∀ g, g < y → ∃ t, t < pT ∧ dr_z A3 (t + 1) = r + 1 ∧ dr_g A3 (t + 1) = g) ∧ dr_Ans E pT pV A1 A2 A3 A4 A5 A6 A7 A8 (fun post u => wpX_groups post u (nI r)) (nI y) := by
  have fz' := fz
  obtain ⟨⟨hE, hT, hV⟩, z3, z6, b6, tt, vv, c4, c7, mt⟩ := fz
  obtain ⟨e0, he0, h00, hz0⟩ := dr_z_hit (a := A3) (n := pT) (r := r) (by omega)
  obtain ⟨e, he, hz, hg, F⟩ := dr_fT (A1 := A1) (A2 := A2) (A5 := A5) (A8 := A8) fz' (r := r) (g := 0) (by omega) (by omega) ⟨e0, he0, by rw [dr_z_s, if_pos h00, hz0], by rw [dr_g_s, if_pos h00]⟩
  by_cases h4 : A4 e = 0
  · refine ⟨0, by omega, fun g hgg => absurd hgg (by omega), ?_⟩
    intro E' nT nV a1 a2 a3 a4 a5 a6 a7 a8 ag io bg nc tc vc og ov gc f p post H
    have ag' := ag
    obtain ⟨⟨hE1, hE2, hT1, hT2, hV1, hV2⟩, _, _, g1, g2, g3, g4, g5, g6, g7, g8⟩ := ag
    try dsimp only
    unfold wpX_groups
    dsimp only
    refine dr_isE (by omega) hE2 ?_
    refine br_f (by decide) ?_
    refine F E' nT nV a1 a2 a3 a4 a5 a6 a7 a8 ag' io bg nc tc vc og ov gc f p _ ?_
    dsimp only
    refine ⟨pk_in e 52 (by omega), ?_⟩
    rw [nI_clamp (show e < 2 ^ 31 by omega), g4 e he]
    exact br_t h4 (H _ _)
  · obtain ⟨k, k0, k1, k2, k3⟩ := dr_far (fun j => ¬ A3 j = 0) e pT he
    have one : ∀ j, j < pT → ¬ A3 j = 0 → A3 j = 1 := fun j hj hn => (tt j hj).resolve_left hn
    refine ⟨k, by omega, fun g hgg => ⟨e + g, by omega, dr_run (k := k) (fun j j0 jk => one _ (by omega) (k2 j j0 jk)) hz hg g hgg⟩, ?_⟩
    intro E' nT nV a1 a2 a3 a4 a5 a6 a7 a8 ag io bg nc tc vc og ov gc f p post H
    have ag' := ag
    obtain ⟨⟨hE1, hE2, hT1, hT2, hV1, hV2⟩, y3, y6, g1, g2, g3, g4, g5, g6, g7, g8⟩ := ag
    try dsimp only
    unfold wpX_groups
    dsimp only
    refine dr_isE (by omega) hE2 ?_
    refine br_f (by decide) ?_
    refine F E' nT nV a1 a2 a3 a4 a5 a6 a7 a8 ag' io bg nc tc vc og ov gc f p _ ?_
    dsimp only
    refine ⟨pk_in e 52 (by omega), ?_⟩
    rw [nI_clamp (show e < 2 ^ 31 by omega), g4 e he]
    refine br_f h4 (nm_r (nI_1 e) ⟨k + 1, dr_g39 hT2 (by omega) (fun j j0 jk => ?_) (fun hl => ?_) (H _ _) (k + 1) 1 (by omega) (by omega) (by omega)⟩)
    · rw [g3 (e + j) (by omega), one (e + j) (by omega) (k2 j j0 jk)]; decide
    · rcases k3 with z | z
      · rw [z, y3 (by omega)]; decide
      · rw [g3 (e + k) z.1, Classical.not_not.mp z.2]; decide
/-- isGroup -/
theorem dr_ig {r g y : Nat} (hr : r < E) (hy : y ≤ 52) (hg : g < 1000) (G : dr_Ans E pT pV A1 A2 A3 A4 A5 A6 A7 A8 (fun post u => wpX_groups post u (nI r)) (nI y)) :
    dr_Ans E pT pV A1 A2 A3 A4 A5 A6 A7 A8 (fun post u => wpX_isGroup post u (nI r) (nI g)) (if g < y then 1 else 0) := by
  intro E' nT nV a1 a2 a3 a4 a5 a6 a7 a8 ag io bg nc tc vc og ov gc f p post H
  try dsimp only
  unfold wpX_isGroup
  dsimp only
  refine dr_isE (by have := ag.1; omega) ag.1.2.1 ?_
  refine br_f (by decide) ?_
  refine br_f (nI_pos (by omega)) ?_
  refine G E' nT nV a1 a2 a3 a4 a5 a6 a7 a8 ag io bg nc tc vc og ov gc f p _ (fun f' p' => ?_)
  by_cases h : g < y
  · rw [if_pos h] at H
    exact br_f (nI_ge h (by omega)) (H f' p')
  · rw [if_neg h] at H
    exact br_t (nI_le (by omega) (by omega)) (H f' p')
/-- hasNote -/
theorem dr_hn {r : Nat} (hr : r < E) : ∃ y : Int32, ∀ (E' nT nV : Nat) (a1 a2 a3 a4 a5 a6 a7 a8 : Nat → Int32), dr_Ag E pT pV A1 A2 A3 A4 A5 A6 A7 A8 E' nT nV a1 a2 a3 a4 a5 a6 a7 a8 →
    ∀ (io bg nc tc vc og ov gc f p : Int32) (post : Int32 → Prop), post y → wpX_hasNote post (io, bg, nI E', nc, nI nT, tc, nI nV, vc, og, ov, gc, f, p, a1, a2, a3, a4, a5, a6, a7, a8) (nI r) := by
  by_cases h : A1 r = 0
  · refine ⟨0, fun E' nT nV a1 a2 a3 a4 a5 a6 a7 a8 ag io bg nc tc vc og ov gc f p post H => ?_⟩
    have hE := ag.1
    unfold wpX_hasNote
    dsimp only
    refine dr_isE (by omega) (by omega) ?_
    refine br_f (by decide) ?_
    refine ⟨pk_in r 12 (by omega), ?_⟩
    rw [nI_clamp (show r < 2 ^ 31 by omega), ag.2.2.2.1 r hr]
    exact br_t h H
  · refine ⟨1, fun E' nT nV a1 a2 a3 a4 a5 a6 a7 a8 ag io bg nc tc vc og ov gc f p post H => ?_⟩
    have hE := ag.1
    unfold wpX_hasNote
    dsimp only
    refine dr_isE (by omega) (by omega) ?_
    refine br_f (by decide) ?_
    refine ⟨pk_in r 12 (by omega), ?_⟩
    rw [nI_clamp (show r < 2 ^ 31 by omega), ag.2.2.2.1 r hr]
    exact br_f h H
/-- notesBefore -/
theorem dr_nb {post : Int32 → Prop} {io bg en nc te tc ve vc og ov gc fo pa : Int32} {a1 a2 a3 a4 a5 a6 a7 a8 : Nat → Int32} {r : Nat} (hr : r ≤ 12) (H : post (nI (dr_n a1 r))) :
    ∀ n i : Nat, i ≤ r → r < n + i → wX_notesBefore_4 post (nI r) io bg en nc te tc ve vc og ov gc fo pa a1 a2 a3 a4 a5 a6 a7 a8 n (nI (dr_n a1 i)) (nI i) := by
  intro n
  induction n with
  | zero => intro i h1 h2; omega
  | succ n ih =>
    intro i h1 h2
    refine pk_le r i (fun z => ?_) (fun z => ⟨pk_in i 12 (by omega), ?_⟩)
    · have : i = r := by omega
      rw [this]; exact H
    · rw [nI_clamp (show i < 2 ^ 31 by omega)]
      have K := ih (i + 1) (by omega) (by omega)
      by_cases h : a1 i = 0
      · rw [dr_n_s, if_pos h] at K
        exact br_t h (nm_r (dr_a0 _) (nm_r (nI_1 i) K))
      · rw [dr_n_s, if_neg h] at K
        exact br_f h (nm_r (nI_1 _) (nm_r (nI_1 i) K))
/-- label: the note -/
theorem dr_lb0 {r : Nat} (hr : r < E) : ∃ y : Int32, dr_Ans E pT pV A1 A2 A3 A4 A5 A6 A7 A8 (fun post u => wpX_label post u (nI r) (-1)) y := by
  by_cases h : A1 r = 0
  · refine ⟨0, fun E' nT nV a1 a2 a3 a4 a5 a6 a7 a8 ag io bg nc tc vc og ov gc f p post H => ?_⟩
    have hE := ag.1
    try dsimp only
    unfold wpX_label
    dsimp only
    refine dr_isE (by omega) (by omega) ?_
    refine br_f (by decide) ?_
    refine br_t rfl ?_
    refine ⟨pk_in r 12 (by omega), ?_⟩
    rw [nI_clamp (show r < 2 ^ 31 by omega), ag.2.2.2.1 r hr]
    exact br_t h (H f p)
  · refine ⟨A2 (dr_n A1 r), fun E' nT nV a1 a2 a3 a4 a5 a6 a7 a8 ag io bg nc tc vc og ov gc f p post H => ?_⟩
    have hE := ag.1
    have en : dr_n a1 r = dr_n A1 r := dr_n_cg (fun j hj => ag.2.2.2.1 j (by omega))
    have l1 := dr_n_le A1 r
    try dsimp only
    unfold wpX_label
    dsimp only
    refine dr_isE (by omega) (by omega) ?_
    refine br_f (by decide) ?_
    refine br_t rfl ?_
    refine ⟨pk_in r 12 (by omega), ?_⟩
    rw [nI_clamp (show r < 2 ^ 31 by omega), ag.2.2.2.1 r hr]
    refine br_f h ⟨r + 1, dr_nb (by omega) ⟨?_, ?_⟩ (r + 1) 0 (by omega) (by omega)⟩
    · rw [en]; exact pk_in (dr_n A1 r) 12 (by omega)
    · rw [en, nI_clamp (show dr_n A1 r < 2 ^ 31 by omega), ag.2.2.2.2.1 _ (dr_n_lt hr h)]
      exact H f p
/-- label: a tag -/
theorem dr_lb1 (fz : dr_Fz E pT pV A3 A4 A6 A7) {r g : Nat} (hr : r < E) (hg : g < 1000) : ∃ y : Int32, dr_Ans E pT pV A1 A2 A3 A4 A5 A6 A7 A8 (fun post u => wpX_label post u (nI r) (nI g)) y := by
  have hE := fz.1
  have c4 := fz.2.2.2.2.2.2.1
  have nm : ¬ nI g = (-1) := by
    intro z
    exact absurd (show nI g < 0 by rw [z]; decide) (nI_pos (by omega))
  obtain ⟨y, hy, hG, G⟩ := dr_gr (A1 := A1) (A2 := A2) (A5 := A5) (A8 := A8) fz hr
  have I := dr_ig hr hy hg G
  by_cases hgy : g < y
  · rw [if_pos hgy] at I
    obtain ⟨e, he, hz, hgg, F⟩ := dr_fT (A1 := A1) (A2 := A2) (A5 := A5) (A8 := A8) fz (r := r) (g := g) (by omega) hg (hG g hgy)
    have cl := dr_c_mo A4 (show e ≤ pT by omega)
    by_cases h4 : A4 e = 2
    · refine ⟨A5 (dr_c A4 e), fun E' nT nV a1 a2 a3 a4 a5 a6 a7 a8 ag io bg nc tc vc og ov gc f p post H => ?_⟩
      have lt := dr_c_lt he h4
      have ag' := ag
      obtain ⟨⟨hE1, hE2, hT1, hT2, hV1, hV2⟩, y3, y6, g1, g2, g3, g4, g5, g6, g7, g8⟩ := ag
      try dsimp only
      unfold wpX_label
      dsimp only
      refine dr_isE (by omega) hE2 ?_
      refine br_f (by decide) ?_
      refine br_f nm ?_
      refine I E' nT nV a1 a2 a3 a4 a5 a6 a7 a8 ag' io bg nc tc vc og ov gc f p _ (fun f' p' => ?_)
      refine br_f (by decide) ?_
      refine F E' nT nV a1 a2 a3 a4 a5 a6 a7 a8 ag' io bg nc tc vc og ov gc f' p' _ ?_
      dsimp only
      refine ⟨pk_in e 52 (by omega), ?_⟩
      rw [nI_clamp (show e < 2 ^ 31 by omega), g4 e he, nI_clamp (show dr_c A4 e < 2 ^ 31 by omega), g5 _ lt]
      exact br_t h4 ⟨pk_in (dr_c A4 e) 40 (by omega), H _ _⟩
    · refine ⟨0, fun E' nT nV a1 a2 a3 a4 a5 a6 a7 a8 ag io bg nc tc vc og ov gc f p post H => ?_⟩
      have ag' := ag
      obtain ⟨⟨hE1, hE2, hT1, hT2, hV1, hV2⟩, y3, y6, g1, g2, g3, g4, g5, g6, g7, g8⟩ := ag
      try dsimp only
      unfold wpX_label
      dsimp only
      refine dr_isE (by omega) hE2 ?_
      refine br_f (by decide) ?_
      refine br_f nm ?_
      refine I E' nT nV a1 a2 a3 a4 a5 a6 a7 a8 ag' io bg nc tc vc og ov gc f p _ (fun f' p' => ?_)
      refine br_f (by decide) ?_
      refine F E' nT nV a1 a2 a3 a4 a5 a6 a7 a8 ag' io bg nc tc vc og ov gc f' p' _ ?_
      dsimp only
      refine ⟨pk_in e 52 (by omega), ?_⟩
      rw [nI_clamp (show e < 2 ^ 31 by omega), g4 e he]
      exact br_f h4 (H _ _)
  · rw [if_neg hgy] at I
    refine ⟨0, fun E' nT nV a1 a2 a3 a4 a5 a6 a7 a8 ag io bg nc tc vc og ov gc f p post H => ?_⟩
    have hE1 := ag.1
    try dsimp only
    unfold wpX_label
    dsimp only
    refine dr_isE (by omega) (by omega) ?_
    refine br_f (by decide) ?_
    refine br_f nm ?_
    refine I E' nT nV a1 a2 a3 a4 a5 a6 a7 a8 ag io bg nc tc vc og ov gc f p _ (fun f' p' => ?_)
    exact br_t rfl (H f' p')
/-- values, of a group that is there -/
theorem dr_vl1 (fz : dr_Fz E pT pV A3 A4 A6 A7) {r g : Nat} (hr : r < E) (hg : g < 1000) (hm : ∃ t, t < pT ∧ dr_z A3 (t + 1) = r + 1 ∧ dr_g A3 (t + 1) = g)
    (I : dr_Ans E pT pV A1 A2 A3 A4 A5 A6 A7 A8 (fun post u => wpX_isGroup post u (nI r) (nI g)) 1) :
    ∃ e k : Nat, dr_c A7 e + k ≤ dr_c A7 pV ∧ dr_Fnd E pT pV A1 A2 A3 A4 A5 A6 A7 A8 (fun post u => wpX_findValue post u (nI r) (nI g)) (nI e) (nI (dr_c A7 e)) ∧
      dr_Ans E pT pV A1 A2 A3 A4 A5 A6 A7 A8 (fun post u => wpX_values post u (nI r) (nI g)) (nI k) := by
  have fz' := fz
  obtain ⟨⟨hE, hT, hV⟩, z3, z6, b6, tt, vv, c4, c7, mt⟩ := fz
  obtain ⟨t, ht, htz, htg⟩ := hm
  obtain ⟨e', he', hez, heg⟩ := mt t ht
  obtain ⟨e, he, hz, hgg, F⟩ := dr_fV (A1 := A1) (A2 := A2) (A5 := A5) (A8 := A8) fz' (r := r) (g := g) (by omega) hg ⟨e', he', by omega, by omega⟩
  by_cases h7 : 2 ≤ A7 e
  · have h7' : A7 e = 2 := (vv e he).2.resolve_right (fun z => z h7)
    obtain ⟨k, k0, k1, k2, k3⟩ := dr_far (fun j => A6 j = 2) e pV he
    have run : ∀ j, j < k → A7 (e + j) = 2 := by
      intro j hj
      by_cases j0 : j = 0
      · rw [j0]; exact h7'
      · have h6 := k2 j (by omega) hj
        rcases (vv (e + j) (by omega)).1 with z | z | z
        · rw [h6] at z; exact absurd z (by decide)
        · rw [h6] at z; exact absurd z (by decide)
        · exact z.2
    refine ⟨e, k, ?_, F, ?_⟩
    · rw [← dr_c_run run]; exact dr_c_mo A7 k1
    intro E' nT nV a1 a2 a3 a4 a5 a6 a7 a8 ag io bg nc tc vc og ov gc f p post H
    have ag' := ag
    obtain ⟨⟨hE1, hE2, hT1, hT2, hV1, hV2⟩, y3, y6, g1, g2, g3, g4, g5, g6, g7, g8⟩ := ag
    try dsimp only
    unfold wpX_values
    dsimp only
    refine I E' nT nV a1 a2 a3 a4 a5 a6 a7 a8 ag' io bg nc tc vc og ov gc f p _ (fun f' p' => ?_)
    refine br_f (by decide) ?_
    refine F E' nT nV a1 a2 a3 a4 a5 a6 a7 a8 ag' io bg nc tc vc og ov gc f' p' _ ?_
    dsimp only
    refine ⟨pk_in e 112 (by omega), ?_⟩
    rw [nI_clamp (show e < 2 ^ 31 by omega), g7 e he]
    refine br_t h7 (nm_r (nI_1 e) ⟨k + 1, dr_v42 hV2 (by omega) (fun j j0 jk => ?_) (fun hl => ?_) (H _ _) (k + 1) 1 (by omega) (by omega) (by omega)⟩)
    · rw [g6 (e + j) (by omega)]; exact k2 j j0 jk
    · rcases k3 with z | z
      · rw [z, y6 (by omega)]; decide
      · rw [g6 (e + k) z.1]; exact z.2
  · refine ⟨e, 0, dr_c_mo A7 (by omega), F, ?_⟩
    intro E' nT nV a1 a2 a3 a4 a5 a6 a7 a8 ag io bg nc tc vc og ov gc f p post H
    have ag' := ag
    obtain ⟨⟨hE1, hE2, hT1, hT2, hV1, hV2⟩, y3, y6, g1, g2, g3, g4, g5, g6, g7, g8⟩ := ag
    try dsimp only
    unfold wpX_values
    dsimp only
    refine I E' nT nV a1 a2 a3 a4 a5 a6 a7 a8 ag' io bg nc tc vc og ov gc f p _ (fun f' p' => ?_)
    refine br_f (by decide) ?_
    refine F E' nT nV a1 a2 a3 a4 a5 a6 a7 a8 ag' io bg nc tc vc og ov gc f' p' _ ?_
    dsimp only
    refine ⟨pk_in e 112 (by omega), ?_⟩
    rw [nI_clamp (show e < 2 ^ 31 by omega), g7 e he]
    exact br_f h7 (H _ _)
/-- values, any group -/
theorem dr_vl (fz : dr_Fz E pT pV A3 A4 A6 A7) {r g : Nat} (hr : r < E) (hg : g < 1000) : ∃ y : Int32, dr_Ans E pT pV A1 A2 A3 A4 A5 A6 A7 A8 (fun post u => wpX_values post u (nI r) (nI g)) y := by
  obtain ⟨y, hy, hG, G⟩ := dr_gr (A1 := A1) (A2 := A2) (A5 := A5) (A8 := A8) fz hr
  have I := dr_ig hr hy hg G
  by_cases hgy : g < y
  · rw [if_pos hgy] at I
    obtain ⟨e, k, _, _, V⟩ := dr_vl1 fz hr hg (hG g hgy) I
    exact ⟨_, V⟩
  · rw [if_neg hgy] at I
    refine ⟨-1, fun E' nT nV a1 a2 a3 a4 a5 a6 a7 a8 ag io bg nc tc vc og ov gc f p post H => ?_⟩
    try dsimp only
    unfold wpX_values
    dsimp only
    refine I E' nT nV a1 a2 a3 a4 a5 a6 a7 a8 ag io bg nc tc vc og ov gc f p _ (fun f' p' => ?_)
    exact br_t rfl (H f' p')
/-- valueAt -/
theorem dr_va (fz : dr_Fz E pT pV A3 A4 A6 A7) {r g v : Nat} (hr : r < E) (hg : g < 1000) (hv : v < 1000) : ∃ y : Int32, dr_Ans E pT pV A1 A2 A3 A4 A5 A6 A7 A8 (fun post u => wpX_valueAt post u (nI r) (nI g) (nI v)) y := by
  have c7 := fz.2.2.2.2.2.2.2.1
  obtain ⟨y, hy, hG, G⟩ := dr_gr (A1 := A1) (A2 := A2) (A5 := A5) (A8 := A8) fz hr
  have I := dr_ig hr hy hg G
  by_cases hgy : g < y
  · rw [if_pos hgy] at I
    obtain ⟨e, k, hk, F, V⟩ := dr_vl1 fz hr hg (hG g hgy) I
    by_cases hvk : v < k
    · refine ⟨A8 (dr_c A7 e + v), fun E' nT nV a1 a2 a3 a4 a5 a6 a7 a8 ag io bg nc tc vc og ov gc f p post H => ?_⟩
      try dsimp only
      unfold wpX_valueAt
      dsimp only
      refine I E' nT nV a1 a2 a3 a4 a5 a6 a7 a8 ag io bg nc tc vc og ov gc f p _ (fun f' p' => ?_)
      refine br_f (by decide) ?_
      refine br_f (nI_pos (by omega)) ?_
      refine V E' nT nV a1 a2 a3 a4 a5 a6 a7 a8 ag io bg nc tc vc og ov gc f' p' _ (fun f2 p2 => ?_)
      refine br_t (nI_lt hvk (by omega)) ?_
      refine F E' nT nV a1 a2 a3 a4 a5 a6 a7 a8 ag io bg nc tc vc og ov gc f2 p2 _ ?_
      dsimp only
      rw [nI_add, nI_clamp (show dr_c A7 e + v < 2 ^ 31 by omega), ag.2.2.2.2.2.2.2.2.2.2 _ (show dr_c A7 e + v < dr_c A7 pV by omega)]
      exact ⟨pk_in (dr_c A7 e + v) 60 (by omega), H _ _⟩
    · refine ⟨0, fun E' nT nV a1 a2 a3 a4 a5 a6 a7 a8 ag io bg nc tc vc og ov gc f p post H => ?_⟩
      try dsimp only
      unfold wpX_valueAt
      dsimp only
      refine I E' nT nV a1 a2 a3 a4 a5 a6 a7 a8 ag io bg nc tc vc og ov gc f p _ (fun f' p' => ?_)
      refine br_f (by decide) ?_
      refine br_f (nI_pos (by omega)) ?_
      refine V E' nT nV a1 a2 a3 a4 a5 a6 a7 a8 ag io bg nc tc vc og ov gc f' p' _ (fun f2 p2 => ?_)
      exact br_f (nI_nlt (by omega) (by omega)) (H f2 p2)
  · rw [if_neg hgy] at I
    refine ⟨0, fun E' nT nV a1 a2 a3 a4 a5 a6 a7 a8 ag io bg nc tc vc og ov gc f p post H => ?_⟩
    try dsimp only
    unfold wpX_valueAt
    dsimp only
    refine I E' nT nV a1 a2 a3 a4 a5 a6 a7 a8 ag io bg nc tc vc og ov gc f p _ (fun f' p' => ?_)
    exact br_t rfl (H f' p')
end
end
section
/-! the law's state(d, records): the same sum for every state that agrees with the picture -/
section
variable {E pT pV : Nat} {A1 A2 A3 A4 A5 A6 A7 A8 : Nat → Int32}
/-- one value of the inner loop -/
theorem dr_s70 (fz : dr_Fz E pT pV A3 A4 A6 A7) {r g v : Nat} (hr : r < E) (hg : g < 1000) (hv : v < 4) (S : Int32) :
    ∃ S' : Int32, ∀ (E' nT nV : Nat) (a1 a2 a3 a4 a5 a6 a7 a8 : Nat → Int32), dr_Ag E pT pV A1 A2 A3 A4 A5 A6 A7 A8 E' nT nV a1 a2 a3 a4 a5 a6 a7 a8 →
    ∀ (io bg nc tc vc og ov gc f p : Int32) (post : Int32 → St1 → Prop) (J4) (x1 x3 : Int32) (n : Nat),
      (∀ f' p' : Int32, wL_state_70 post J4 x1 x3 (nI r) (nI g) n S' (nI (v + 1)) io bg (nI E') nc (nI nT) tc (nI nV) vc og ov gc f' p' a1 a2 a3 a4 a5 a6 a7 a8) →
      wL_state_70 post J4 x1 x3 (nI r) (nI g) (n + 1) S (nI v) io bg (nI E') nc (nI nT) tc (nI nV) vc og ov gc f p a1 a2 a3 a4 a5 a6 a7 a8 := by
  obtain ⟨y, Y⟩ := dr_va (A1 := A1) (A2 := A2) (A5 := A5) (A8 := A8) fz hr hg (show v < 1000 by omega)
  refine ⟨S * 31 + y, fun E' nT nV a1 a2 a3 a4 a5 a6 a7 a8 ag io bg nc tc vc og ov gc f p post J4 x1 x3 n H => ?_⟩
  refine br_f (nI_ge (b := 4) hv (by decide)) ?_
  refine Y E' nT nV a1 a2 a3 a4 a5 a6 a7 a8 ag io bg nc tc vc og ov gc f p _ (fun f' p' => ?_)
  exact nm_e (nm_r (nI_1 v) (H f' p'))
/-- the inner loop -/
theorem dr_s70w (fz : dr_Fz E pT pV A3 A4 A6 A7) {r g : Nat} (hr : r < E) (hg : g < 1000) (S : Int32) :
    ∃ S' : Int32, ∀ (E' nT nV : Nat) (a1 a2 a3 a4 a5 a6 a7 a8 : Nat → Int32), dr_Ag E pT pV A1 A2 A3 A4 A5 A6 A7 A8 E' nT nV a1 a2 a3 a4 a5 a6 a7 a8 →
    ∀ (io bg nc tc vc og ov gc f p : Int32) (post : Int32 → St1 → Prop) (J4) (x1 : Int32) (i : Nat),
      (∀ f' p' : Int32, J4 S' (nI (i + 1)) io bg (nI E') nc (nI nT) tc (nI nV) vc og ov gc f' p' a1 a2 a3 a4 a5 a6 a7 a8) →
      wL_state_70 post J4 x1 (nI i) (nI r) (nI g) 5 S 0 io bg (nI E') nc (nI nT) tc (nI nV) vc og ov gc f p a1 a2 a3 a4 a5 a6 a7 a8 := by
  obtain ⟨S1, H1⟩ := dr_s70 (A1 := A1) (A2 := A2) (A5 := A5) (A8 := A8) fz hr hg (show 0 < 4 by omega) S
  obtain ⟨S2, H2⟩ := dr_s70 (A1 := A1) (A2 := A2) (A5 := A5) (A8 := A8) fz hr hg (show 1 < 4 by omega) S1
  obtain ⟨S3, H3⟩ := dr_s70 (A1 := A1) (A2 := A2) (A5 := A5) (A8 := A8) fz hr hg (show 2 < 4 by omega) S2
  obtain ⟨S4, H4⟩ := dr_s70 (A1 := A1) (A2 := A2) (A5 := A5) (A8 := A8) fz hr hg (show 3 < 4 by omega) S3
  refine ⟨S4, fun E' nT nV a1 a2 a3 a4 a5 a6 a7 a8 ag io bg nc tc vc og ov gc f p post J4 x1 i H => ?_⟩
  refine H1 E' nT nV a1 a2 a3 a4 a5 a6 a7 a8 ag io bg nc tc vc og ov gc f p post J4 x1 (nI i) 4 (fun f1 p1 => ?_)
  refine H2 E' nT nV a1 a2 a3 a4 a5 a6 a7 a8 ag io bg nc tc vc og ov gc f1 p1 post J4 x1 (nI i) 3 (fun f2 p2 => ?_)
  refine H3 E' nT nV a1 a2 a3 a4 a5 a6 a7 a8 ag io bg nc tc vc og ov gc f2 p2 post J4 x1 (nI i) 2 (fun f3 p3 => ?_)
  refine H4 E' nT nV a1 a2 a3 a4 a5 a6 a7 a8 ag io bg nc tc vc og ov gc f3 p3 post J4 x1 (nI i) 1 (fun f4 p4 => ?_)
  exact br_t (nI_le (a := 4) (b := 4) (by omega) (by omega)) (nm_r (nI_1 i) (H f4 p4))
/-- label, at g - 1 -/
theorem dr_lb (fz : dr_Fz E pT pV A3 A4 A6 A7) {r g : Nat} (hr : r < E) (hg : g < 1000) : ∃ y : Int32, dr_Ans E pT pV A1 A2 A3 A4 A5 A6 A7 A8 (fun post u => wpX_label post u (nI r) (nI g - 1)) y := by
  cases g with
  | zero =>
    rw [show nI 0 - 1 = (-1 : Int32) by decide]
    exact dr_lb0 hr
  | succ g =>
    rw [nI_pred]
    exact dr_lb1 fz hr (by omega)
/-- one turn of the outer loop -/
theorem dr_s4 (fz : dr_Fz E pT pV A3 A4 A6 A7) {i : Nat} (hi : i < 4 * E) (S : Int32) :
    ∃ S' : Int32, ∀ (E' nT nV : Nat) (a1 a2 a3 a4 a5 a6 a7 a8 : Nat → Int32), dr_Ag E pT pV A1 A2 A3 A4 A5 A6 A7 A8 E' nT nV a1 a2 a3 a4 a5 a6 a7 a8 →
    ∀ (io bg nc tc vc og ov gc f p : Int32) (post : Int32 → St1 → Prop) (n : Nat),
      (∀ f' p' : Int32, wL_state_4 post (nI E) n S' (nI (i + 1)) io bg (nI E') nc (nI nT) tc (nI nV) vc og ov gc f' p' a1 a2 a3 a4 a5 a6 a7 a8) →
      wL_state_4 post (nI E) (n + 1) S (nI i) io bg (nI E') nc (nI nT) tc (nI nV) vc og ov gc f p a1 a2 a3 a4 a5 a6 a7 a8 := by
  have hE := fz.1
  have hr : i / 2 ^ 2 < E := by omega
  have hg : i % 2 ^ 2 < 1000 := by omega
  obtain ⟨y1, _, _, H1⟩ := dr_gr (A1 := A1) (A2 := A2) (A5 := A5) (A8 := A8) fz hr
  obtain ⟨y2, H2⟩ := dr_hn (pT := pT) (pV := pV) (A1 := A1) (A2 := A2) (A3 := A3) (A4 := A4) (A5 := A5) (A6 := A6) (A7 := A7) (A8 := A8) hr
  obtain ⟨y3, H3⟩ := dr_lb (A1 := A1) (A2 := A2) (A5 := A5) (A8 := A8) fz hr hg
  obtain ⟨y4, H4⟩ := dr_vl (A1 := A1) (A2 := A2) (A5 := A5) (A8 := A8) fz hr hg
  obtain ⟨S', H5⟩ := dr_s70w (A1 := A1) (A2 := A2) (A5 := A5) (A8 := A8) fz hr hg (((((S * 31) + nI y1) + (3 * y2)) + y3) * 31 + y4)
  refine ⟨S', fun E' nT nV a1 a2 a3 a4 a5 a6 a7 a8 ag io bg nc tc vc og ov gc f p post n H => ?_⟩
  have h4 : (4 : Int32) * nI E = nI (4 * E) := pk_mul 4 E
  refine br_f (by rw [h4]; exact nI_ge hi (by omega)) ?_
  refine nm_r (pk_shrN (by omega) _ 2 (by decide)) ?_
  refine nm_r (pk_andN (by omega) 2 (by decide)) ?_
  refine H1 E' nT nV a1 a2 a3 a4 a5 a6 a7 a8 ag io bg nc tc vc og ov gc f p _ (fun f1 p1 => ?_)
  refine H2 E' nT nV a1 a2 a3 a4 a5 a6 a7 a8 ag io bg nc tc vc og ov gc f1 p1 _ ?_
  refine H3 E' nT nV a1 a2 a3 a4 a5 a6 a7 a8 ag io bg nc tc vc og ov gc f1 p1 _ (fun f2 p2 => ?_)
  refine nm_e ?_
  refine H4 E' nT nV a1 a2 a3 a4 a5 a6 a7 a8 ag io bg nc tc vc og ov gc f2 p2 _ (fun f3 p3 => ?_)
  refine nm_e ⟨5, ?_⟩
  exact H5 E' nT nV a1 a2 a3 a4 a5 a6 a7 a8 ag io bg nc tc vc og ov gc f3 p3 post _ _ i H
/-- the outer loop, up to turn k -/
theorem dr_s4w (fz : dr_Fz E pT pV A3 A4 A6 A7) : ∀ k : Nat, k ≤ 4 * E →
    ∃ S' : Int32, ∀ (E' nT nV : Nat) (a1 a2 a3 a4 a5 a6 a7 a8 : Nat → Int32), dr_Ag E pT pV A1 A2 A3 A4 A5 A6 A7 A8 E' nT nV a1 a2 a3 a4 a5 a6 a7 a8 →
    ∀ (io bg nc tc vc og ov gc f p : Int32) (post : Int32 → St1 → Prop) (n : Nat),
      (∀ f' p' : Int32, wL_state_4 post (nI E) n S' (nI k) io bg (nI E') nc (nI nT) tc (nI nV) vc og ov gc f' p' a1 a2 a3 a4 a5 a6 a7 a8) →
      wL_state_4 post (nI E) (n + k) 0 (nI 0) io bg (nI E') nc (nI nT) tc (nI nV) vc og ov gc f p a1 a2 a3 a4 a5 a6 a7 a8 := by
  intro k
  induction k with
  | zero => exact fun _ => ⟨0, fun E' nT nV a1 a2 a3 a4 a5 a6 a7 a8 ag io bg nc tc vc og ov gc f p post n H => H f p⟩
  | succ k ih =>
    intro hk
    obtain ⟨S, H⟩ := ih (by omega)
    obtain ⟨S', H'⟩ := dr_s4 (A1 := A1) (A2 := A2) (A5 := A5) (A8 := A8) fz (show k < 4 * E by omega) S
    refine ⟨S', fun E' nT nV a1 a2 a3 a4 a5 a6 a7 a8 ag io bg nc tc vc og ov gc f p post n hn => ?_⟩
    rw [show n + (k + 1) = (n + 1) + k by omega]
    refine H E' nT nV a1 a2 a3 a4 a5 a6 a7 a8 ag io bg nc tc vc og ov gc f p post (n + 1) (fun f1 p1 => ?_)
    exact H' E' nT nV a1 a2 a3 a4 a5 a6 a7 a8 ag io bg nc tc vc og ov gc f1 p1 post n hn
theorem dr_st (fz : dr_Fz E pT pV A3 A4 A6 A7) : ∃ y : Int32, dr_Ans E pT pV A1 A2 A3 A4 A5 A6 A7 A8 (fun post u => wpL_state post u (nI E)) y := by
  have hE := fz.1
  obtain ⟨S, H⟩ := dr_s4w (A1 := A1) (A2 := A2) (A5 := A5) (A8 := A8) fz (4 * E) (Nat.le_refl _)
  refine ⟨S, fun E' nT nV a1 a2 a3 a4 a5 a6 a7 a8 ag io bg nc tc vc og ov gc f p post hp => ⟨1 + 4 * E, ?_⟩⟩
  have h4 : (4 : Int32) * nI E = nI (4 * E) := pk_mul 4 E
  refine H E' nT nV a1 a2 a3 a4 a5 a6 a7 a8 ag io bg nc tc vc og ov gc f p post 1 (fun f1 p1 => ?_)
  exact br_t (by rw [h4]; exact nI_le (Nat.le_refl _) (by omega)) (hp f1 p1)
end
end
section
/-! sumByTag and recordsWith: what a whole walk computes -/
def dr_w1 (tag : Int32) (E : Nat) (a4 a5 a6 : Nat → Int32) (w : Int32) (i : Nat) : Int32 :=
  if 2 ≤ a6 i then w else if a4 (dr_b a6 i) = 2 ∧ a5 (dr_c a4 (dr_b a6 i)) = tag ∧ dr_z a6 (i + 1) ≤ E then 1 else 0
def dr_s1 (a7 a8 : Nat → Int32) (s w : Int32) (i : Nat) : Int32 := if a7 i = 2 then (if w = 0 then s else s + a8 (dr_c a7 i)) else s
def dr_sw (tag : Int32) (E : Nat) (a4 a5 a6 a7 a8 : Nat → Int32) : Nat → Int32 × Int32
  | 0 => (0, 0)
  | i + 1 => (dr_s1 a7 a8 (dr_sw tag E a4 a5 a6 a7 a8 i).1 (dr_w1 tag E a4 a5 a6 (dr_sw tag E a4 a5 a6 a7 a8 i).2 i) i, dr_w1 tag E a4 a5 a6 (dr_sw tag E a4 a5 a6 a7 a8 i).2 i)
def dr_rw (lo hi : Int32) (E : Nat) (a6 a7 a8 : Nat → Int32) : Nat → Nat × Nat
  | 0 => (0, 0)
  | i + 1 => if a7 i = 2 ∧ ¬ a8 (dr_c a7 i) < lo ∧ ¬ hi < a8 (dr_c a7 i) ∧ ¬ dr_z a6 (i + 1) = (dr_rw lo hi E a6 a7 a8 i).2 ∧ dr_z a6 (i + 1) ≤ E
      then ((dr_rw lo hi E a6 a7 a8 i).1 + 1, dr_z a6 (i + 1)) else dr_rw lo hi E a6 a7 a8 i
theorem dr_rw_le (lo hi : Int32) (E : Nat) (a6 a7 a8 : Nat → Int32) : ∀ i : Nat, (dr_rw lo hi E a6 a7 a8 i).1 ≤ i ∧ (dr_rw lo hi E a6 a7 a8 i).2 ≤ dr_z a6 i
  | 0 => ⟨Nat.le_refl 0, Nat.le_refl 0⟩
  | i + 1 => by
    have ih := dr_rw_le lo hi E a6 a7 a8 i
    have zm := dr_z_mo a6 (show i ≤ i + 1 by omega)
    unfold dr_rw
    split
    · exact ⟨by dsimp only; omega, Nat.le_refl _⟩
    · exact ⟨by omega, by omega⟩
theorem dr_mi (z : Nat) : nI z + (-1) + 1 = nI z := by grind
section
variable {post : Int32 → Prop} {J19 : Int32 → Int32 → Int32 → Int32 → Int32 → Int32 → Int32 → Prop} {io bg nc te tc ve vc og ov gc fo pa : Int32} {a1 a2 a3 a4 a5 a6 a7 a8 : Nat → Int32}
theorem dr_t126 {tag s x3 x4 x6 w en : Int32} {c i : Nat} (hi : i < 112) (hc : a7 i = 2 → c < 60) (hc2 : c < 1000)
    (H : J19 (if a7 i = 2 then (if w = 0 then s else s + a8 c) else s) x3 x4 (nI (if a7 i = 2 then c + 1 else c)) x6 w (nI (i + 1))) :
    wX_sumByTag_126 post J19 tag s x3 x4 (nI c) x6 w (nI i) io bg en nc te tc ve vc og ov gc fo pa a1 a2 a3 a4 a5 a6 a7 a8 := by
  unfold wX_sumByTag_126
  rw [nI_clamp (show i < 2 ^ 31 by omega), nI_clamp (show c < 2 ^ 31 by omega)]
  refine ⟨pk_in i 112 hi, ?_⟩
  by_cases h7 : a7 i = 2
  · rw [if_pos h7, if_pos h7] at H
    refine br_t h7 ?_
    by_cases hw : w = 0
    · rw [if_pos hw] at H
      exact br_t hw (nm_r (dr_a0 _) (nm_r (nI_1 c) (nm_r (nI_1 i) H)))
    · rw [if_neg hw] at H
      exact br_f hw ⟨pk_in c 60 (hc h7), nm_e (nm_r (nI_1 c) (nm_r (nI_1 i) H))⟩
  · rw [if_neg h7, if_neg h7] at H
    exact br_f h7 (nm_r (nI_1 i) H)
theorem dr_t59 {tag s x5 x8 z0 z1 : Int32} {b t zz E : Nat} (hb : b < 52) (ht : a4 b = 2 → t < 40) (ht2 : t < 1000) (hz : zz < 1000) (hE : E ≤ 12) (he : z1 + z0 = nI zz + (-1))
    (K : wX_sumByTag_126 post J19 tag s (nI b) (nI (if a4 b = 2 then t + 1 else t)) x5 (nI zz + (-1)) (if a4 b = 2 ∧ a5 t = tag ∧ zz ≤ E then 1 else 0) x8 io bg (nI E) nc te tc ve vc og ov gc fo pa a1 a2 a3 a4 a5 a6 a7 a8) :
    wX_sumByTag_59 post J19 tag s (nI b) (nI t) x5 x8 z0 z1 io bg (nI E) nc te tc ve vc og ov gc fo pa a1 a2 a3 a4 a5 a6 a7 a8 := by
  unfold wX_sumByTag_59
  rw [nI_clamp (show b < 2 ^ 31 by omega)]
  refine nm_r he ⟨pk_in b 52 hb, ?_⟩
  by_cases h4 : a4 b = 2
  · rw [if_pos h4] at K
    refine br_t h4 ?_
    unfold wX_sumByTag_77
    rw [nI_clamp (show t < 2 ^ 31 by omega)]
    refine br_f (by decide) ⟨pk_in t 40 (ht h4), ?_⟩
    by_cases h5 : a5 t = tag
    · refine br_t h5 ?_
      by_cases hzE : zz ≤ E
      · rw [if_pos ⟨h4, h5, hzE⟩] at K
        exact br_f (fun z => absurd ((dr_mle (by omega) (by omega)).mp z) (by omega)) (br_f (by decide) (nm_r (nI_1 t) K))
      · rw [if_neg (fun z => hzE z.2.2)] at K
        exact br_t ((dr_mle (by omega) (by omega)).mpr (by omega)) (br_f (by decide) (nm_r (nI_1 t) K))
    · rw [if_neg (fun z => h5 z.2.1)] at K
      exact br_f h5 (br_f (by decide) (nm_r (nI_1 t) K))
  · rw [if_neg h4, if_neg (fun z => h4 z.1)] at K
    exact br_f h4 (br_t rfl (br_t rfl (nm_r (dr_a0 _) K)))
theorem dr_t19 {tag : Int32} {nV E : Nat} (hE : E ≤ 12) (hV : nV ≤ 112) (hb : dr_b a6 nV ≤ 52) (h4 : dr_c a4 (dr_b a6 nV) ≤ 40) (h7 : dr_c a7 nV ≤ 60)
    (H : post (dr_sw tag E a4 a5 a6 a7 a8 nV).1) :
    ∀ n i : Nat, i ≤ nV → nV < n + i → wX_sumByTag_19 post tag io bg (nI E) nc te tc (nI nV) vc og ov gc fo pa a1 a2 a3 a4 a5 a6 a7 a8 n (dr_sw tag E a4 a5 a6 a7 a8 i).1 (nI (dr_b a6 i) + (-1)) (nI (dr_c a4 (dr_b a6 i))) (nI (dr_c a7 i)) (nI (dr_z a6 i) + (-1)) (dr_sw tag E a4 a5 a6 a7 a8 i).2 (nI i) := by
  intro n
  induction n with
  | zero => intro i h1 h2; omega
  | succ n ih =>
    intro i h1 h2
    refine pk_le nV i (fun z => ?_) (fun z => ⟨pk_in i 112 (by omega), ?_⟩)
    · have : i = nV := by omega
      rw [this]; exact H
    · rw [nI_clamp (show i < 2 ^ 31 by omega)]
      have K := ih (i + 1) (by omega) (by omega)
      have hc7 : a7 i = 2 → dr_c a7 i < 60 := fun e => by have := dr_c_lt z e; omega
      have hc7' := dr_c_le a7 i
      have hz := dr_z_le a6 (i + 1)
      by_cases h6 : 2 ≤ a6 i
      · have hn : ¬ a6 i = 0 := by
          intro e; rw [e] at h6; exact absurd h6 (by decide)
        refine br_t h6 ?_
        rw [dr_b_s, if_pos h6, dr_z_s, if_neg hn] at K
        have ew : (dr_sw tag E a4 a5 a6 a7 a8 (i + 1)).2 = (dr_sw tag E a4 a5 a6 a7 a8 i).2 := if_pos h6
        have es : (dr_sw tag E a4 a5 a6 a7 a8 (i + 1)).1 = dr_s1 a7 a8 (dr_sw tag E a4 a5 a6 a7 a8 i).1 (dr_sw tag E a4 a5 a6 a7 a8 (i + 1)).2 i := rfl
        rw [es, ew] at K
        exact dr_t126 (by omega) hc7 (by omega) K
      · have bl := dr_b_lt z h6
        have b1 := dr_b_le a6 i
        have c1 := dr_c_le a4 (dr_b a6 i)
        have h4' : a4 (dr_b a6 i) = 2 → dr_c a4 (dr_b a6 i) < 40 := fun e => by have := dr_c_lt bl e; omega
        refine br_f h6 (nm_r (dr_mi _) ⟨pk_in i 112 (by omega), ?_⟩)
        rw [dr_b_s, if_neg h6, dr_c_s a4, pk_m1] at K
        have ew : (dr_sw tag E a4 a5 a6 a7 a8 (i + 1)).2 = if a4 (dr_b a6 i) = 2 ∧ a5 (dr_c a4 (dr_b a6 i)) = tag ∧ dr_z a6 (i + 1) ≤ E then 1 else 0 := if_neg h6
        have es : (dr_sw tag E a4 a5 a6 a7 a8 (i + 1)).1 = dr_s1 a7 a8 (dr_sw tag E a4 a5 a6 a7 a8 i).1 (dr_sw tag E a4 a5 a6 a7 a8 (i + 1)).2 i := rfl
        rw [es, ew] at K
        have K2 := dr_t126 (post := post) (tag := tag) (io := io) (bg := bg) (en := nI E) (nc := nc) (te := te) (tc := tc) (ve := nI nV) (vc := vc) (og := og) (ov := ov) (gc := gc) (fo := fo) (pa := pa) (a1 := a1) (a2 := a2) (a3 := a3) (a4 := a4) (a5 := a5) (a6 := a6) (by omega) hc7 (by omega) K
        by_cases h0 : a6 i = 0
        · refine br_t h0 (dr_t59 (zz := dr_z a6 (i + 1)) (by omega) h4' (by omega) (by omega) hE ?_ K2)
          rw [dr_z_s, if_pos h0]; exact dr_ms _
        · refine br_f h0 (dr_t59 (zz := dr_z a6 (i + 1)) (by omega) h4' (by omega) (by omega) hE ?_ K2)
          rw [dr_z_s, if_neg h0]; exact dr_m0 _
theorem dr_tag {tag : Int32} {nV E : Nat} (hE : E ≤ 12) (hV : nV ≤ 112) (hb : dr_b a6 nV ≤ 52) (h4 : dr_c a4 (dr_b a6 nV) ≤ 40) (h7 : dr_c a7 nV ≤ 60)
    (H : post (dr_sw tag E a4 a5 a6 a7 a8 nV).1) : wpX_sumByTag post (io, bg, nI E, nc, te, tc, nI nV, vc, og, ov, gc, fo, pa, a1, a2, a3, a4, a5, a6, a7, a8) tag := by
  have K := dr_t19 (io := io) (bg := bg) (nc := nc) (te := te) (tc := tc) (vc := vc) (og := og) (ov := ov) (gc := gc) (fo := fo) (pa := pa) (a1 := a1) (a2 := a2) (a3 := a3) hE hV hb h4 h7 H (nV + 1) 0 (by omega) (by omega)
  rw [show dr_b a6 0 = 0 from rfl, show dr_z a6 0 = 0 from rfl, dr_m10] at K
  exact ⟨nV + 1, K⟩
theorem dr_r14 {lo hi : Int32} {nV E : Nat} (hE : E ≤ 12) (hV : nV ≤ 112) (h7 : dr_c a7 nV ≤ 60)
    (H : post (nI (dr_rw lo hi E a6 a7 a8 nV).1)) :
    ∀ n i : Nat, i ≤ nV → nV < n + i → wX_recordsWith_14 post lo hi io bg (nI E) nc te tc (nI nV) vc og ov gc fo pa a1 a2 a3 a4 a5 a6 a7 a8 n (nI (dr_rw lo hi E a6 a7 a8 i).1) (nI (dr_z a6 i) + (-1)) (nI (dr_c a7 i)) (nI (dr_rw lo hi E a6 a7 a8 i).2 + (-1)) (nI i) := by
  intro n
  induction n with
  | zero => intro i h1 h2; omega
  | succ n ih =>
    intro i h1 h2
    refine pk_le nV i (fun z => ?_) (fun z => ⟨pk_in i 112 (by omega), ?_⟩)
    · have : i = nV := by omega
      rw [this]; exact H
    · rw [nI_clamp (show i < 2 ^ 31 by omega)]
      have K := ih (i + 1) (by omega) (by omega)
      have hc7 : a7 i = 2 → dr_c a7 i < 60 := fun e => by have := dr_c_lt z e; omega
      have hc7' := dr_c_le a7 i
      have hz := dr_z_le a6 (i + 1)
      have hzm := dr_z_mo a6 (show i ≤ i + 1 by omega)
      have hl := (dr_rw_le lo hi E a6 a7 a8 i).2
      have M : ∀ z0 : Int32, nI (dr_z a6 i) + (-1) + z0 = nI (dr_z a6 (i + 1)) + (-1) → wX_recordsWith_40 post (wX_recordsWith_14 post lo hi io bg (nI E) nc te tc (nI nV) vc og ov gc fo pa a1 a2 a3 a4 a5 a6 a7 a8 n) lo hi (nI (dr_rw lo hi E a6 a7 a8 i).1) (nI (dr_c a7 i)) (nI (dr_rw lo hi E a6 a7 a8 i).2 + (-1)) (nI i) z0 (nI (dr_z a6 i) + (-1)) io bg (nI E) nc te tc (nI nV) vc og ov gc fo pa a1 a2 a3 a4 a5 a6 a7 a8 := by
        intro z0 e0
        unfold wX_recordsWith_40
        rw [nI_clamp (show i < 2 ^ 31 by omega), nI_clamp (show dr_c a7 i < 2 ^ 31 by omega)]
        refine nm_r e0 ⟨pk_in i 112 (by omega), ?_⟩
        rw [dr_c_s] at K
        unfold dr_rw at K
        by_cases h7i : a7 i = 2
        · rw [if_pos h7i] at K
          refine br_t h7i ⟨pk_in (dr_c a7 i) 60 (hc7 h7i), nm_e (nm_r (nI_1 _) ?_)⟩
          by_cases hlo : a8 (dr_c a7 i) < lo
          · rw [if_neg (fun q => q.2.1 hlo)] at K
            exact br_t hlo (nm_r (nI_1 i) K)
          · refine br_f hlo ?_
            by_cases hhi : hi < a8 (dr_c a7 i)
            · rw [if_neg (fun q => q.2.2.1 hhi)] at K
              exact br_t hhi (nm_r (nI_1 i) K)
            · refine br_f hhi ?_
              by_cases hq : dr_z a6 (i + 1) = (dr_rw lo hi E a6 a7 a8 i).2
              · rw [if_neg (fun q => q.2.2.2.1 hq)] at K
                exact br_t ((dr_mm (by omega) (by omega)).mpr hq) (nm_r (nI_1 i) K)
              · refine br_f (fun q => hq ((dr_mm (by omega) (by omega)).mp q)) ?_
                by_cases hzE : dr_z a6 (i + 1) ≤ E
                · rw [if_pos ⟨h7i, hlo, hhi, hq, hzE⟩] at K
                  exact br_f (fun q => absurd ((dr_mle (by omega) (by omega)).mp q) (by omega)) (nm_r (nI_1 _) (nm_r (nI_1 i) K))
                · rw [if_neg (fun q => hzE q.2.2.2.2)] at K
                  exact br_t ((dr_mle (by omega) (by omega)).mpr (by omega)) (nm_r (nI_1 i) K)
        · rw [if_neg h7i, if_neg (fun q => h7i q.1)] at K
          exact br_f h7i (nm_r (nI_1 i) K)
      by_cases h0 : a6 i = 0
      · refine br_t h0 (M 1 ?_)
        rw [dr_z_s, if_pos h0]; exact dr_ms _
      · refine br_f h0 (M 0 ?_)
        rw [dr_z_s, if_neg h0]; exact dr_m0 _
theorem dr_rec {lo hi : Int32} {nV E : Nat} (hE : E ≤ 12) (hV : nV ≤ 112) (h7 : dr_c a7 nV ≤ 60)
    (H : post (nI (dr_rw lo hi E a6 a7 a8 nV).1)) : wpX_recordsWith post (io, bg, nI E, nc, te, tc, nI nV, vc, og, ov, gc, fo, pa, a1, a2, a3, a4, a5, a6, a7, a8) lo hi := by
  have K := dr_r14 (io := io) (bg := bg) (nc := nc) (te := te) (tc := tc) (vc := vc) (og := og) (ov := ov) (gc := gc) (fo := fo) (pa := pa) (a1 := a1) (a2 := a2) (a3 := a3) (a4 := a4) (a5 := a5) hE hV h7 H (nV + 1) 0 (by omega) (by omega)
  rw [show dr_z a6 0 = 0 from rfl, show (dr_rw lo hi E a6 a7 a8 0).2 = 0 from rfl, dr_m10] at K
  exact ⟨nV + 1, K⟩
end
end
section
/-! the plain law of the two walks: only the frozen prefix counts -/
section
variable {E pT pV : Nat} {A1 A2 A3 A4 A5 A6 A7 A8 : Nat → Int32} {E' nT nV : Nat} {a1 a2 a3 a4 a5 a6 a7 a8 : Nat → Int32}
theorem dr_w1_eq (fz : dr_Fz E pT pV A3 A4 A6 A7) (ag : dr_Ag E pT pV A1 A2 A3 A4 A5 A6 A7 A8 E' nT nV a1 a2 a3 a4 a5 a6 a7 a8) {tag w : Int32} {i : Nat} (hi : i < pV) :
    dr_w1 tag E a4 a5 a6 w i = dr_w1 tag E A4 A5 A6 w i := by
  obtain ⟨_, z3, z6, b6, tt, vv, c4, c7, mt⟩ := fz
  obtain ⟨_, _, _, g1, g2, g3, g4, g5, g6, g7, g8⟩ := ag
  have eb : dr_b a6 i = dr_b A6 i := dr_b_cg (fun j hj => g6 j (by omega))
  have ez : dr_z a6 (i + 1) = dr_z A6 (i + 1) := dr_z_cg (fun j hj => g6 j (by omega))
  unfold dr_w1
  rw [g6 i hi, eb, ez]
  by_cases h6 : 2 ≤ A6 i
  · rw [if_pos h6, if_pos h6]
  · rw [if_neg h6, if_neg h6]
    have bl := dr_b_lt hi h6
    rw [b6] at bl
    have ec : dr_c a4 (dr_b A6 i) = dr_c A4 (dr_b A6 i) := dr_c_cg (fun j hj => g4 j (by omega))
    rw [g4 _ bl, ec]
    by_cases h4 : A4 (dr_b A6 i) = 2
    · rw [g5 _ (dr_c_lt bl h4)]
    · rw [if_neg (fun z => h4 z.1), if_neg (fun z => h4 z.1)]
theorem dr_s1_eq (ag : dr_Ag E pT pV A1 A2 A3 A4 A5 A6 A7 A8 E' nT nV a1 a2 a3 a4 a5 a6 a7 a8) {s w : Int32} {i : Nat} (hi : i < pV) :
    dr_s1 a7 a8 s w i = dr_s1 A7 A8 s w i := by
  obtain ⟨_, _, _, g1, g2, g3, g4, g5, g6, g7, g8⟩ := ag
  have ec : dr_c a7 i = dr_c A7 i := dr_c_cg (fun j hj => g7 j (by omega))
  unfold dr_s1
  rw [g7 i hi, ec]
  by_cases h7 : A7 i = 2
  · rw [if_pos h7, if_pos h7, g8 _ (dr_c_lt hi h7)]
  · rw [if_neg h7, if_neg h7]
theorem dr_sw_pre (fz : dr_Fz E pT pV A3 A4 A6 A7) (ag : dr_Ag E pT pV A1 A2 A3 A4 A5 A6 A7 A8 E' nT nV a1 a2 a3 a4 a5 a6 a7 a8) (tag : Int32) :
    ∀ i : Nat, i ≤ pV → dr_sw tag E a4 a5 a6 a7 a8 i = dr_sw tag E A4 A5 A6 A7 A8 i
  | 0, _ => rfl
  | i + 1, hi => by
    have ih := dr_sw_pre fz ag tag i (by omega)
    unfold dr_sw
    rw [ih, dr_w1_eq fz ag (by omega), dr_s1_eq ag (by omega)]
theorem dr_sw_end (fz : dr_Fz E pT pV A3 A4 A6 A7) (ag : dr_Ag E pT pV A1 A2 A3 A4 A5 A6 A7 A8 E' nT nV a1 a2 a3 a4 a5 a6 a7 a8) (tag : Int32) :
    ∀ k : Nat, pV + k ≤ nV → (dr_sw tag E a4 a5 a6 a7 a8 (pV + k)).1 = (dr_sw tag E a4 a5 a6 a7 a8 pV).1 ∧ (0 < k → (dr_sw tag E a4 a5 a6 a7 a8 (pV + k)).2 = 0)
  | 0, _ => ⟨rfl, fun h => absurd h (by omega)⟩
  | k + 1, hk => by
    have ih := dr_sw_end fz ag tag k (by omega)
    have z6 := fz.2.2.1
    have y6 := ag.2.2.1 (by omega)
    have ez : dr_z a6 pV = E := by rw [← z6]; exact dr_z_cg (fun j hj => ag.2.2.2.2.2.2.2.2.1 j hj)
    have ez1 : dr_z a6 (pV + 1) = E + 1 := by rw [dr_z_s, if_pos y6, ez]
    have zm : dr_z a6 (pV + 1) ≤ dr_z a6 (pV + k + 1) := dr_z_mo a6 (by omega)
    have w0 : dr_w1 tag E a4 a5 a6 (dr_sw tag E a4 a5 a6 a7 a8 (pV + k)).2 (pV + k) = 0 := by
      unfold dr_w1
      by_cases h6 : 2 ≤ a6 (pV + k)
      · rw [if_pos h6]
        by_cases hk0 : k = 0
        · rw [hk0, show pV + 0 = pV from rfl, y6] at h6
          exact absurd h6 (by decide)
        · exact ih.2 (by omega)
      · rw [if_neg h6, if_neg (fun z => absurd z.2.2 (by omega))]
    show (dr_sw tag E a4 a5 a6 a7 a8 (pV + k + 1)).1 = _ ∧ (0 < k + 1 → (dr_sw tag E a4 a5 a6 a7 a8 (pV + k + 1)).2 = 0)
    rw [← ih.1]
    unfold dr_sw
    rw [w0]
    refine ⟨?_, fun _ => rfl⟩
    show dr_s1 a7 a8 (dr_sw tag E a4 a5 a6 a7 a8 (pV + k)).1 0 (pV + k) = _
    unfold dr_s1
    rw [if_pos rfl]
    by_cases h7 : a7 (pV + k) = 2
    · rw [if_pos h7]; cases pV + k <;> rfl
    · rw [if_neg h7]; cases pV + k <;> rfl
theorem dr_sw_all (fz : dr_Fz E pT pV A3 A4 A6 A7) (ag : dr_Ag E pT pV A1 A2 A3 A4 A5 A6 A7 A8 E' nT nV a1 a2 a3 a4 a5 a6 a7 a8) (tag : Int32) :
    (dr_sw tag E a4 a5 a6 a7 a8 nV).1 = (dr_sw tag E A4 A5 A6 A7 A8 pV).1 := by
  have h := ag.1
  have := (dr_sw_end fz ag tag (nV - pV) (by omega)).1
  rw [show pV + (nV - pV) = nV by omega] at this
  rw [this, dr_sw_pre fz ag tag pV (Nat.le_refl _)]
theorem dr_rw_pre (fz : dr_Fz E pT pV A3 A4 A6 A7) (ag : dr_Ag E pT pV A1 A2 A3 A4 A5 A6 A7 A8 E' nT nV a1 a2 a3 a4 a5 a6 a7 a8) (lo hi : Int32) :
    ∀ i : Nat, i ≤ pV → dr_rw lo hi E' a6 a7 a8 i = dr_rw lo hi E A6 A7 A8 i
  | 0, _ => rfl
  | i + 1, hk => by
    have ih := dr_rw_pre fz ag lo hi i (by omega)
    obtain ⟨_, z3, z6, b6, tt, vv, c4, c7, mt⟩ := fz
    obtain ⟨hE, _, _, g1, g2, g3, g4, g5, g6, g7, g8⟩ := ag
    have ez : dr_z a6 (i + 1) = dr_z A6 (i + 1) := dr_z_cg (fun j hj => g6 j (by omega))
    have ec : dr_c a7 i = dr_c A7 i := dr_c_cg (fun j hj => g7 j (by omega))
    have zm : dr_z A6 (i + 1) ≤ dr_z A6 pV := dr_z_mo A6 (by omega)
    show (if a7 i = 2 ∧ ¬ a8 (dr_c a7 i) < lo ∧ ¬ hi < a8 (dr_c a7 i) ∧ ¬ dr_z a6 (i + 1) = (dr_rw lo hi E' a6 a7 a8 i).2 ∧ dr_z a6 (i + 1) ≤ E' then ((dr_rw lo hi E' a6 a7 a8 i).1 + 1, dr_z a6 (i + 1)) else dr_rw lo hi E' a6 a7 a8 i)
      = (if A7 i = 2 ∧ ¬ A8 (dr_c A7 i) < lo ∧ ¬ hi < A8 (dr_c A7 i) ∧ ¬ dr_z A6 (i + 1) = (dr_rw lo hi E A6 A7 A8 i).2 ∧ dr_z A6 (i + 1) ≤ E then ((dr_rw lo hi E A6 A7 A8 i).1 + 1, dr_z A6 (i + 1)) else dr_rw lo hi E A6 A7 A8 i)
    rw [ih, ez, ec, g7 i (by omega)]
    by_cases h7 : A7 i = 2
    · rw [g8 _ (dr_c_lt (show i < pV by omega) h7)]
      by_cases hq : A7 i = 2 ∧ ¬ A8 (dr_c A7 i) < lo ∧ ¬ hi < A8 (dr_c A7 i) ∧ ¬ dr_z A6 (i + 1) = (dr_rw lo hi E A6 A7 A8 i).2 ∧ dr_z A6 (i + 1) ≤ E
      · rw [if_pos hq, if_pos ⟨hq.1, hq.2.1, hq.2.2.1, hq.2.2.2.1, by omega⟩]
      · rw [if_neg hq, if_neg (fun z => hq ⟨z.1, z.2.1, z.2.2.1, z.2.2.2.1, by omega⟩)]
    · rw [if_neg (fun z => h7 z.1), if_neg (fun z => h7 z.1)]
theorem dr_rw_end (fz : dr_Fz E pT pV A3 A4 A6 A7) (ag : dr_Ag E pT pV A1 A2 A3 A4 A5 A6 A7 A8 E nT nV a1 a2 a3 a4 a5 a6 a7 a8) (lo hi : Int32) :
    ∀ k : Nat, pV + k ≤ nV → dr_rw lo hi E a6 a7 a8 (pV + k) = dr_rw lo hi E a6 a7 a8 pV
  | 0, _ => rfl
  | k + 1, hk => by
    have ih := dr_rw_end fz ag lo hi k (by omega)
    have z6 := fz.2.2.1
    have y6 := ag.2.2.1 (by omega)
    have ez : dr_z a6 pV = E := by rw [← z6]; exact dr_z_cg (fun j hj => ag.2.2.2.2.2.2.2.2.1 j hj)
    have ez1 : dr_z a6 (pV + 1) = E + 1 := by rw [dr_z_s, if_pos y6, ez]
    have zm : dr_z a6 (pV + 1) ≤ dr_z a6 (pV + k + 1) := dr_z_mo a6 (by omega)
    rw [← ih]
    show (if a7 (pV + k) = 2 ∧ ¬ a8 (dr_c a7 (pV + k)) < lo ∧ ¬ hi < a8 (dr_c a7 (pV + k)) ∧ ¬ dr_z a6 (pV + k + 1) = (dr_rw lo hi E a6 a7 a8 (pV + k)).2 ∧ dr_z a6 (pV + k + 1) ≤ E then _ else _) = _
    rw [if_neg (fun z => absurd z.2.2.2.2 (by omega))]
    rfl
theorem dr_rw_all (fz : dr_Fz E pT pV A3 A4 A6 A7) (ag : dr_Ag E pT pV A1 A2 A3 A4 A5 A6 A7 A8 E nT nV a1 a2 a3 a4 a5 a6 a7 a8) (lo hi : Int32) :
    dr_rw lo hi E a6 a7 a8 nV = dr_rw lo hi E A6 A7 A8 pV := by
  have h := ag.1
  have := dr_rw_end fz ag lo hi (nV - pV) (by omega)
  rw [show pV + (nV - pV) = nV by omega] at this
  rw [this, dr_rw_pre fz ag lo hi pV (Nat.le_refl _)]
/-- .. and when one more record is ended: none or one more -/
theorem dr_rw_one (fz : dr_Fz E pT pV A3 A4 A6 A7) (ag : dr_Ag E pT pV A1 A2 A3 A4 A5 A6 A7 A8 (E + 1) nT nV a1 a2 a3 a4 a5 a6 a7 a8) (hz : dr_z a6 nV ≤ E + 1) (lo hi : Int32) :
    ∀ k : Nat, pV + k ≤ nV → (dr_rw lo hi (E + 1) a6 a7 a8 (pV + k)).1 = (dr_rw lo hi E A6 A7 A8 pV).1 ∨ ((dr_rw lo hi (E + 1) a6 a7 a8 (pV + k)).1 = (dr_rw lo hi E A6 A7 A8 pV).1 + 1 ∧ (dr_rw lo hi (E + 1) a6 a7 a8 (pV + k)).2 = E + 1)
  | 0, _ => Or.inl (by rw [show pV + 0 = pV from rfl, dr_rw_pre fz ag lo hi pV (Nat.le_refl _)])
  | k + 1, hk => by
    have ih := dr_rw_one fz ag hz lo hi k (by omega)
    have z6 := fz.2.2.1
    have y6 := ag.2.2.1 (by omega)
    have ez : dr_z a6 pV = E := by rw [← z6]; exact dr_z_cg (fun j hj => ag.2.2.2.2.2.2.2.2.1 j hj)
    have ez1 : dr_z a6 (pV + 1) = E + 1 := by rw [dr_z_s, if_pos y6, ez]
    have zm : dr_z a6 (pV + 1) ≤ dr_z a6 (pV + k + 1) := dr_z_mo a6 (by omega)
    have zn : dr_z a6 (pV + k + 1) ≤ dr_z a6 nV := dr_z_mo a6 (by omega)
    have st : dr_rw lo hi (E + 1) a6 a7 a8 (pV + (k + 1)) = (if a7 (pV + k) = 2 ∧ ¬ a8 (dr_c a7 (pV + k)) < lo ∧ ¬ hi < a8 (dr_c a7 (pV + k)) ∧ ¬ dr_z a6 (pV + k + 1) = (dr_rw lo hi (E + 1) a6 a7 a8 (pV + k)).2 ∧ dr_z a6 (pV + k + 1) ≤ E + 1 then ((dr_rw lo hi (E + 1) a6 a7 a8 (pV + k)).1 + 1, dr_z a6 (pV + k + 1)) else dr_rw lo hi (E + 1) a6 a7 a8 (pV + k)) := rfl
    rw [st]
    rcases ih with h1 | h1
    · by_cases hq : a7 (pV + k) = 2 ∧ ¬ a8 (dr_c a7 (pV + k)) < lo ∧ ¬ hi < a8 (dr_c a7 (pV + k)) ∧ ¬ dr_z a6 (pV + k + 1) = (dr_rw lo hi (E + 1) a6 a7 a8 (pV + k)).2 ∧ dr_z a6 (pV + k + 1) ≤ E + 1
      · rw [if_pos hq]
        exact Or.inr ⟨by dsimp only; omega, by dsimp only; omega⟩
      · rw [if_neg hq]
        exact Or.inl h1
    · rw [if_neg (fun z => z.2.2.2.1 (by omega))]
      exact Or.inr h1
theorem dr_rw_up (fz : dr_Fz E pT pV A3 A4 A6 A7) (ag : dr_Ag E pT pV A1 A2 A3 A4 A5 A6 A7 A8 (E + 1) nT nV a1 a2 a3 a4 a5 a6 a7 a8) (hz : dr_z a6 nV ≤ E + 1) (lo hi : Int32) :
    (dr_rw lo hi (E + 1) a6 a7 a8 nV).1 = (dr_rw lo hi E A6 A7 A8 pV).1 ∨ (dr_rw lo hi (E + 1) a6 a7 a8 nV).1 = (dr_rw lo hi E A6 A7 A8 pV).1 + 1 := by
  have h := ag.1
  have := dr_rw_one fz ag hz lo hi (nV - pV) (by omega)
  rw [show pV + (nV - pV) = nV by omega] at this
  rcases this with z | z
  · exact Or.inl z
  · exact Or.inr z.1
end
end
section
/-! the columns with an open record behind the prefix: k groups in the tags, q of them in the values -/
def dr_Pi (E pT pV k q nT nV : Nat) (a3 a6 a7 : Nat → Int32) : Prop :=
  (nT = pT + k ∧ pV ≤ nV ∧ q ≤ k) ∧ dr_z a3 pT = E ∧ dr_z a6 pV = E ∧ dr_b a6 pV = pT ∧
  (∀ j, j < nT → a3 j = 0 ∨ a3 j = 1) ∧ (0 < k → a3 pT = 0) ∧ (∀ j, 0 < j → j < k → a3 (pT + j) = 1) ∧
  dr_VV a6 a7 nV ∧ (q = 0 → nV = pV) ∧ (0 < q → pV < nV ∧ a6 pV = 0 ∧ dr_z a6 nV = E + 1 ∧ dr_g a6 nV + 1 = q) ∧ dr_b a6 nV = pT + q ∧
  (∀ t, t < pT → ∃ e, e < pV ∧ dr_z a6 (e + 1) = dr_z a3 (t + 1) ∧ dr_g a6 (e + 1) = dr_g a3 (t + 1)) ∧
  (∀ t, t < q → ∃ e, e < nV ∧ dr_z a6 (e + 1) = E + 1 ∧ dr_g a6 (e + 1) = t)
theorem dr_u {a : Nat → Int32} {n : Nat} {x : Int32} : ∀ j, j < n → upd a n x j = a j := fun j hj => pk_un (by omega)
theorem dr_uz {a : Nat → Int32} {n i : Nat} {x : Int32} (h : i ≤ n) : dr_z (upd a n x) i = dr_z a i := dr_z_cg (fun j hj => dr_u j (by omega))
theorem dr_ug {a : Nat → Int32} {n i : Nat} {x : Int32} (h : i ≤ n) : dr_g (upd a n x) i = dr_g a i := dr_g_cg (fun j hj => dr_u j (by omega))
theorem dr_uc {a : Nat → Int32} {n i : Nat} {x : Int32} (h : i ≤ n) : dr_c (upd a n x) i = dr_c a i := dr_c_cg (fun j hj => dr_u j (by omega))
theorem dr_ub {a : Nat → Int32} {n i : Nat} {x : Int32} (h : i ≤ n) : dr_b (upd a n x) i = dr_b a i := dr_b_cg (fun j hj => dr_u j (by omega))
theorem dr_un {a : Nat → Int32} {n i : Nat} {x : Int32} (h : i ≤ n) : dr_n (upd a n x) i = dr_n a i := dr_n_cg (fun j hj => dr_u j (by omega))
theorem dr_ucs {a : Nat → Int32} {n : Nat} {x : Int32} : dr_c (upd a n x) (n + 1) = if x = 2 then dr_c a n + 1 else dr_c a n := by
  rw [dr_c_s, pk_us, dr_uc (Nat.le_refl n)]
theorem dr_uns {a : Nat → Int32} {n : Nat} {x : Int32} : dr_n (upd a n x) (n + 1) = if x = 0 then dr_n a n else dr_n a n + 1 := by
  rw [dr_n_s, pk_us, dr_un (Nat.le_refl n)]
section
variable {E pT pV k q nT nV : Nat} {a3 a6 a7 : Nat → Int32}
/-- a tag entry more -/
theorem dr_PiT (pi : dr_Pi E pT pV k q nT nV a3 a6 a7) {x : Int32} (hx : (k = 0 ∧ x = 0) ∨ (0 < k ∧ x = 1)) : dr_Pi E pT pV (k + 1) q (nT + 1) nV (upd a3 nT x) a6 a7 := by
  obtain ⟨⟨h1, h2, h3⟩, z3, z6, b6, tt, t0, t1, vv, v0, v1, bn, m1, m2⟩ := pi
  refine ⟨⟨by omega, h2, by omega⟩, ?_, z6, b6, ?_, ?_, ?_, vv, v0, v1, bn, ?_, m2⟩
  · rw [dr_uz (by omega)]; exact z3
  · intro j hj
    by_cases e : j = nT
    · rw [e, pk_us]
      rcases hx with z | z
      · exact Or.inl z.2
      · exact Or.inr z.2
    · rw [dr_u j (by omega)]; exact tt j (by omega)
  · intro _
    rcases hx with z | z
    · rw [show pT = nT by omega, pk_us]; exact z.2
    · rw [dr_u pT (by omega)]; exact t0 z.1
  · intro j j0 jk
    by_cases e : j = k
    · rw [e, ← h1, pk_us]
      rcases hx with z | z
      · omega
      · exact z.2
    · rw [dr_u (pT + j) (by omega)]; exact t1 j j0 (by omega)
  · intro t ht
    obtain ⟨e, he, h⟩ := m1 t ht
    exact ⟨e, he, by rw [dr_uz (by omega), dr_ug (by omega)]; exact h⟩
/-- a value entry more: the first of a group -/
theorem dr_PiV (pi : dr_Pi E pT pV k q nT nV a3 a6 a7) {x y : Int32} (hq : q < k) (hx : (q = 0 ∧ x = 0) ∨ (0 < q ∧ x = 1)) (hy : y = 2 ∨ ¬ 2 ≤ y) : dr_Pi E pT pV k (q + 1) nT (nV + 1) a3 (upd a6 nV x) (upd a7 nV y) := by
  obtain ⟨⟨h1, h2, h3⟩, z3, z6, b6, tt, t0, t1, vv, v0, v1, bn, m1, m2⟩ := pi
  have x2 : ¬ 2 ≤ x := by
    rcases hx with z | z
    · rw [z.2]; decide
    · rw [z.2]; decide
  have zz : dr_z (upd a6 nV x) (nV + 1) = E + 1 := by
    rw [dr_z_s, pk_us, dr_uz (Nat.le_refl _)]
    rcases hx with z | z
    · rw [if_pos z.2, v0 z.1, z6]
    · rw [if_neg (by rw [z.2]; decide)]; exact (v1 z.1).2.2.1
  have gg : dr_g (upd a6 nV x) (nV + 1) = q := by
    rw [dr_g_s, pk_us, dr_ug (Nat.le_refl _)]
    rcases hx with z | z
    · rw [if_pos z.2]; exact z.1.symm
    · rw [if_neg (by rw [z.2]; decide), if_pos z.2]; exact (v1 z.1).2.2.2
  refine ⟨⟨h1, by omega, by omega⟩, z3, ?_, ?_, tt, t0, t1, ?_, fun z => absurd z (by omega), fun _ => ⟨by omega, ?_, zz, by rw [gg]⟩, ?_, ?_, ?_⟩
  · rw [dr_uz h2]; exact z6
  · rw [dr_ub h2]; exact b6
  · intro j hj
    by_cases e : j = nV
    · rw [e, pk_us, pk_us]
      refine ⟨?_, hy⟩
      rcases hx with z | z
      · exact Or.inl z.2
      · exact Or.inr (Or.inl z.2)
    · rw [dr_u j (by omega), dr_u j (by omega)]; exact vv j (by omega)
  · rcases hx with z | z
    · rw [v0 z.1, pk_us]; exact z.2
    · rw [dr_u pV (v1 z.1).1]; exact (v1 z.1).2.1
  · rw [dr_b_s, pk_us, dr_ub (Nat.le_refl _), if_neg x2, bn]; rfl
  · intro t ht
    obtain ⟨e, he, h⟩ := m1 t ht
    exact ⟨e, he, by rw [dr_uz (by omega), dr_ug (by omega)]; exact h⟩
  · intro t ht
    by_cases e : t = q
    · exact ⟨nV, by omega, zz, by rw [gg, e]⟩
    · obtain ⟨e, he, h⟩ := m2 t (by omega)
      exact ⟨e, by omega, by rw [dr_uz (by omega), dr_ug (by omega)]; exact h⟩
/-- a value entry more: a next value -/
theorem dr_PiW (pi : dr_Pi E pT pV k q nT nV a3 a6 a7) (hq : 0 < q) : dr_Pi E pT pV k q nT (nV + 1) a3 (upd a6 nV 2) (upd a7 nV 2) := by
  obtain ⟨⟨h1, h2, h3⟩, z3, z6, b6, tt, t0, t1, vv, v0, v1, bn, m1, m2⟩ := pi
  obtain ⟨w1, w2, w3, w4⟩ := v1 hq
  have zz : dr_z (upd a6 nV 2) (nV + 1) = E + 1 := by
    rw [dr_z_s, pk_us, dr_uz (Nat.le_refl _), if_neg (by decide)]; exact w3
  have gg : dr_g (upd a6 nV 2) (nV + 1) + 1 = q := by
    rw [dr_g_s, pk_us, dr_ug (Nat.le_refl _), if_neg (by decide), if_neg (by decide)]; exact w4
  refine ⟨⟨h1, by omega, h3⟩, z3, ?_, ?_, tt, t0, t1, ?_, fun z => absurd z (by omega), fun _ => ⟨by omega, ?_, zz, gg⟩, ?_, ?_, ?_⟩
  · rw [dr_uz h2]; exact z6
  · rw [dr_ub h2]; exact b6
  · intro j hj
    by_cases e : j = nV
    · rw [e, pk_us, pk_us]
      exact ⟨Or.inr (Or.inr ⟨rfl, rfl⟩), Or.inl rfl⟩
    · rw [dr_u j (by omega), dr_u j (by omega)]; exact vv j (by omega)
  · rw [dr_u pV w1]; exact w2
  · rw [dr_b_s, pk_us, dr_ub (Nat.le_refl _), if_pos (by decide), bn]
  · intro t ht
    obtain ⟨e, he, h⟩ := m1 t ht
    exact ⟨e, he, by rw [dr_uz (by omega), dr_ug (by omega)]; exact h⟩
  · intro t ht
    obtain ⟨e, he, h⟩ := m2 t ht
    exact ⟨e, by omega, by rw [dr_uz (by omega), dr_ug (by omega)]; exact h⟩
/-- the record ends -/
theorem dr_PiE (pi : dr_Pi E pT pV k k nT nV a3 a6 a7) (hk : 0 < k) : dr_Pi (E + 1) nT nV 0 0 nT nV a3 a6 a7 := by
  obtain ⟨⟨h1, h2, h3⟩, z3, z6, b6, tt, t0, t1, vv, v0, v1, bn, m1, m2⟩ := pi
  obtain ⟨w1, w2, w3, w4⟩ := v1 hk
  have R := dr_run (a := a3) (e := pT) (k := k) (Z := E + 1) t1 (by rw [dr_z_s, if_pos (t0 hk), z3]) (by rw [dr_g_s, if_pos (t0 hk)])
  refine ⟨⟨rfl, Nat.le_refl _, Nat.le_refl _⟩, ?_, w3, by omega, tt, fun z => absurd z (by omega), fun j j0 jk => absurd jk (by omega), vv, fun _ => rfl, fun z => absurd z (by omega), by omega, ?_, fun t ht => absurd ht (by omega)⟩
  · have := (R (k - 1) (by omega)).1
    rw [show pT + (k - 1) + 1 = nT by omega] at this
    exact this
  · intro t ht
    by_cases e : t < pT
    · obtain ⟨e, he, h⟩ := m1 t e
      exact ⟨e, by omega, h⟩
    · obtain ⟨e', he, h, h'⟩ := m2 (t - pT) (by omega)
      have r := R (t - pT) (by omega)
      rw [show pT + (t - pT) + 1 = t + 1 by omega] at r
      exact ⟨e', he, by rw [h, r.1], by rw [h', r.2]⟩
theorem dr_Pi0 : dr_Pi 0 0 0 0 0 0 0 (fun _ => 0) (fun _ => 0) (fun _ => 0) :=
  ⟨⟨rfl, Nat.le_refl _, Nat.le_refl _⟩, rfl, rfl, rfl, fun j h => absurd h (by omega), fun z => absurd z (by omega), fun j j0 jk => absurd jk (by omega), fun j h => absurd h (by omega), fun _ => rfl, fun z => absurd z (by omega), rfl, fun t ht => absurd ht (by omega), fun t ht => absurd ht (by omega)⟩
/-- what lies ahead of the open record is frozen -/
theorem dr_PiF (pi : dr_Pi E pT pV k q nT nV a3 a6 a7) {a4 : Nat → Int32} (hE : E ≤ 12) (hT : nT ≤ 52) (hV : nV ≤ 112) (h4 : dr_c a4 nT ≤ 40) (h7 : dr_c a7 nV ≤ 60) : dr_Fz E pT pV a3 a4 a6 a7 := by
  obtain ⟨⟨h1, h2, h3⟩, z3, z6, b6, tt, t0, t1, vv, v0, v1, bn, m1, m2⟩ := pi
  have c4 := dr_c_mo a4 (show pT ≤ nT by omega)
  have c7 := dr_c_mo a7 h2
  exact ⟨⟨hE, by omega, by omega⟩, z3, z6, b6, fun j hj => tt j (by omega), fun j hj => vv j (by omega), by omega, by omega, m1⟩
/-- and seen by a later state -/
theorem dr_PiA (pi : dr_Pi E pT pV k q nT nV a3 a6 a7) {E' : Nat} {a1 a2 a4 a5 a8 A1 A2 A3 A4 A5 A6 A7 A8 : Nat → Int32} (hE : E ≤ E') (hE2 : E' ≤ 12) (hT : nT ≤ 52) (hV : nV ≤ 112)
    (g1 : ∀ j, j < E → a1 j = A1 j) (g2 : ∀ j, j < dr_n A1 E → a2 j = A2 j) (g3 : ∀ j, j < pT → a3 j = A3 j) (g4 : ∀ j, j < pT → a4 j = A4 j) (g5 : ∀ j, j < dr_c A4 pT → a5 j = A5 j)
    (g6 : ∀ j, j < pV → a6 j = A6 j) (g7 : ∀ j, j < pV → a7 j = A7 j) (g8 : ∀ j, j < dr_c A7 pV → a8 j = A8 j) : dr_Ag E pT pV A1 A2 A3 A4 A5 A6 A7 A8 E' nT nV a1 a2 a3 a4 a5 a6 a7 a8 := by
  obtain ⟨⟨h1, h2, h3⟩, z3, z6, b6, tt, t0, t1, vv, v0, v1, bn, m1, m2⟩ := pi
  refine ⟨⟨hE, hE2, by omega, hT, h2, hV⟩, fun z => t0 (by omega), fun z => ?_, g1, g2, g3, g4, g5, g6, g7, g8⟩
  rcases Nat.eq_zero_or_pos q with e | e
  · have := v0 e
    omega
  · exact (v1 e).2.1
/-- the walks' bounds -/
theorem dr_PiB (pi : dr_Pi E pT pV k q nT nV a3 a6 a7) : dr_b a6 nV ≤ nT ∧ dr_z a6 nV ≤ E + 1 := by
  obtain ⟨⟨h1, h2, h3⟩, z3, z6, b6, tt, t0, t1, vv, v0, v1, bn, m1, m2⟩ := pi
  refine ⟨by omega, ?_⟩
  rcases Nat.eq_zero_or_pos q with e | e
  · rw [v0 e]; omega
  · have := (v1 e).2.2.1
    omega
end
end
section
/-! the writing methods keep the invariant, and leave the frozen prefix alone -/
def dr_Inv (pT pV o E B NC nT tc nV vc og ov gc : Nat) (a1 a3 a4 a6 a7 : Nat → Int32) : Prop :=
  ∃ k q : Nat, dr_Pi E pT pV k q nT nV a3 a6 a7 ∧
    ((o = 0 ∧ B = E ∧ k = 0 ∧ q = 0) ∨ (o = 1 ∧ B = E + 1 ∧ k = og ∧ ((og = 0 ∧ q = 0) ∨ (0 < og ∧ ov = 0 ∧ q + 1 = og) ∨ (0 < og ∧ 0 < ov ∧ q = og)))) ∧
    (B ≤ 12 ∧ og ≤ 4 ∧ ov ≤ 4 ∧ gc ≤ 40 ∧ vc ≤ 60 ∧ tc ≤ gc ∧ nT ≤ gc + E ∧ nV + k ≤ vc + gc + E + q) ∧ dr_c a4 nT = tc ∧ dr_c a7 nV = vc ∧ dr_n a1 B = NC
/-- K holds of every good state behind a call -/
def dr_Nx (pT pV E o : Nat) (A1 A2 A3 A4 A5 A6 A7 A8 : Nat → Int32) (f p : Int32) (K : St1 → Prop) : Prop :=
  ∀ (B NC nT tc nV vc og ov gc : Nat) (a1 a2 a3 a4 a5 a6 a7 a8 : Nat → Int32), dr_Inv pT pV o E B NC nT tc nV vc og ov gc a1 a3 a4 a6 a7 →
    dr_Ag E pT pV A1 A2 A3 A4 A5 A6 A7 A8 E nT nV a1 a2 a3 a4 a5 a6 a7 a8 →
    K (nI o, nI B, nI E, nI NC, nI nT, nI tc, nI nV, nI vc, nI og, nI ov, nI gc, f, p, a1, a2, a3, a4, a5, a6, a7, a8)
section
variable {pT pV o E B NC nT tc nV vc og ov gc : Nat} {a1 a2 a3 a4 a5 a6 a7 a8 : Nat → Int32} {f p : Int32}
theorem dr_InvF (inv : dr_Inv pT pV o E B NC nT tc nV vc og ov gc a1 a3 a4 a6 a7) : dr_Fz E pT pV a3 a4 a6 a7 := by
  obtain ⟨k, q, pi, c, b, e4, e7, e1⟩ := inv
  have h := pi.1
  exact dr_PiF pi (by omega) (by omega) (by omega) (by omega) (by omega)
theorem dr_InvA (inv : dr_Inv pT pV o E B NC nT tc nV vc og ov gc a1 a3 a4 a6 a7) : dr_Ag E pT pV a1 a2 a3 a4 a5 a6 a7 a8 E nT nV a1 a2 a3 a4 a5 a6 a7 a8 := by
  obtain ⟨k, q, pi, c, b, e4, e7, e1⟩ := inv
  have h := pi.1
  exact dr_PiA pi (Nat.le_refl _) (by omega) (by omega) (by omega) (fun _ _ => rfl) (fun _ _ => rfl) (fun _ _ => rfl) (fun _ _ => rfl) (fun _ _ => rfl) (fun _ _ => rfl) (fun _ _ => rfl) (fun _ _ => rfl)
theorem dr_InvB (inv : dr_Inv pT pV o E B NC nT tc nV vc og ov gc a1 a3 a4 a6 a7) : E ≤ 12 ∧ nT ≤ 52 ∧ nV ≤ 112 ∧ dr_b a6 nV ≤ 52 ∧ dr_c a4 (dr_b a6 nV) ≤ 40 ∧ dr_c a7 nV ≤ 60 ∧ dr_z a6 nV ≤ E + 1 := by
  obtain ⟨k, q, pi, c, b, e4, e7, e1⟩ := inv
  have h := pi.1
  have hb := dr_PiB pi
  have hc := dr_c_mo a4 hb.1
  exact ⟨by omega, by omega, by omega, by omega, by omega, by omega, hb.2⟩
theorem dr_stay {K : St1 → Prop} (inv : dr_Inv pT pV o E B NC nT tc nV vc og ov gc a1 a3 a4 a6 a7) (H : dr_Nx pT pV E o a1 a2 a3 a4 a5 a6 a7 a8 f p K) :
    K (nI o, nI B, nI E, nI NC, nI nT, nI tc, nI nV, nI vc, nI og, nI ov, nI gc, f, p, a1, a2, a3, a4, a5, a6, a7, a8) := H _ _ _ _ _ _ _ _ _ _ _ _ _ _ _ _ _ inv (dr_InvA inv)
theorem dr_vnb {x : Int32} (h : x = 0 ∨ x = 1) : vp_nar .boolean x = x := by
  rcases h with e | e
  · rw [e]; decide
  · rw [e]; decide
theorem dr_begin {post : Int32 → St1 → Prop} {x y : Int32} (inv : dr_Inv pT pV o E B NC nT tc nV vc og ov gc a1 a3 a4 a6 a7) (hx : x = 0 ∨ x = 1)
    (H0 : dr_Nx pT pV E o a1 a2 a3 a4 a5 a6 a7 a8 f p (post (-1))) (H1 : dr_Nx pT pV E 1 a1 a2 a3 a4 a5 a6 a7 a8 f p (fun u => ∀ r, r < 12 → post (nI r) u)) :
    wpX_begin post (nI o, nI B, nI E, nI NC, nI nT, nI tc, nI nV, nI vc, nI og, nI ov, nI gc, f, p, a1, a2, a3, a4, a5, a6, a7, a8) x y := by
  have st := dr_stay inv H0
  obtain ⟨k, q, pi, c, b, e4, e7, e1⟩ := inv
  have h := pi.1
  have nl := dr_n_le a1 B
  refine pk_eq o 0 (fun ho => pk_lt B 12 (fun hB => ⟨pk_in B 12 hB, ?_⟩) (fun _ => st)) (fun _ => st)
  have c' : B = E ∧ k = 0 ∧ q = 0 := by
    rcases c with z | z
    · exact z.2
    · exact absurd z.1 (by omega)
  have go : ∀ (NC' : Nat) (a2' : Nat → Int32), dr_n (upd a1 B x) (B + 1) = NC' → (∀ j, j < dr_n a1 E → a2' j = a2 j) →
      post (nI (B + 1) - 1) (nI 1, nI (B + 1), nI E, nI NC', nI nT, nI tc, nI nV, nI vc, nI 0, nI ov, nI gc, f, p, upd a1 B x, a2', a3, a4, a5, a6, a7, a8) := by
    intro NC' a2' hn h2
    rw [nI_pred]
    refine H1 (B + 1) NC' nT tc nV vc 0 ov gc (upd a1 B x) a2' a3 a4 a5 a6 a7 a8 ⟨k, q, pi, Or.inr ⟨rfl, by omega, by omega, Or.inl ⟨rfl, by omega⟩⟩, by omega, e4, e7, hn⟩ ?_ B (by omega)
    exact dr_PiA pi (Nat.le_refl _) (by omega) (by omega) (by omega) (fun j hj => dr_u j (by omega)) h2 (fun _ _ => rfl) (fun _ _ => rfl) (fun _ _ => rfl) (fun _ _ => rfl) (fun _ _ => rfl) (fun _ _ => rfl)
  rw [nI_clamp (show B < 2 ^ 31 by omega), nI_clamp (show NC < 2 ^ 31 by omega), dr_vnb hx]
  refine nm_e ?_
  by_cases h0 : x = 0
  · exact br_t h0 (nm_r (nI_1 B) (go NC a2 (by rw [dr_uns, if_pos h0]; exact e1) (fun _ _ => rfl)))
  · exact br_f h0 ⟨pk_in NC 12 (by omega), nm_e (nm_r (nI_1 NC) (nm_r (nI_1 B) (go (NC + 1) (upd a2 NC y) (by rw [dr_uns, if_neg h0, e1]) (fun j hj => dr_u j (by rw [← e1, c'.1]; exact hj)))))⟩
end
section
variable {post : St1 → Prop} {io bg en nc te tc ve vc og ov gc f p : Int32} {nT nV : Nat} {a1 a2 a3 a4 a5 a6 a7 a8 : Nat → Int32} {x y : Int32}
theorem dr_addV (h : nV < 112) (H : post (io, bg, en, nc, te, tc, nI (nV + 1), vc, og, ov, gc, f, p, a1, a2, a3, a4, a5, upd a6 nV x, upd a7 nV y, a8)) :
    wpX_addValueEntry post (io, bg, en, nc, te, tc, nI nV, vc, og, ov, gc, f, p, a1, a2, a3, a4, a5, a6, a7, a8) x y := by
  unfold wpX_addValueEntry
  dsimp only
  rw [nI_clamp (show nV < 2 ^ 31 by omega)]
  exact ⟨pk_in nV 112 h, nm_e ⟨pk_in nV 112 h, nm_e (nm_r (nI_1 nV) H)⟩⟩
theorem dr_addT (h : nT < 52) (H : post (io, bg, en, nc, nI (nT + 1), tc, ve, vc, og, ov, gc, f, p, a1, a2, upd a3 nT x, upd a4 nT y, a5, a6, a7, a8)) :
    wpX_addTagEntry post (io, bg, en, nc, nI nT, tc, ve, vc, og, ov, gc, f, p, a1, a2, a3, a4, a5, a6, a7, a8) x y := by
  unfold wpX_addTagEntry
  dsimp only
  rw [nI_clamp (show nT < 2 ^ 31 by omega)]
  exact ⟨pk_in nT 52 h, nm_e ⟨pk_in nT 52 h, nm_e (nm_r (nI_1 nT) H)⟩⟩
end
section
variable {pT pV o E B NC nT tc nV vc og ov gc q : Nat} {a1 a2 a3 a4 a5 a6 a7 a8 : Nat → Int32} {f p : Int32}
theorem dr_close {post : St1 → Prop} {io bg en nc te tc vc' gc' : Int32} (pi : dr_Pi E pT pV og q nT nV a3 a6 a7) (c : (og = 0 ∧ q = 0) ∨ (0 < og ∧ ov = 0 ∧ q + 1 = og) ∨ (0 < og ∧ 0 < ov ∧ q = og)) (b1 : og ≤ 4) (b2 : ov ≤ 4) (b3 : nV + og ≤ 111 + q)
    (H : ∀ (nV' : Nat) (a6' a7' : Nat → Int32), dr_Pi E pT pV og og nT nV' a3 a6' a7' → nV' + q = nV + og → dr_c a7' nV' = dr_c a7 nV → (∀ j, j < nV → a6' j = a6 j) → (∀ j, j < nV → a7' j = a7 j) →
      post (io, bg, en, nc, te, tc, nI nV', vc', nI og, nI ov, gc', f, p, a1, a2, a3, a4, a5, a6', a7', a8)) :
    wpX_closeGroup post (io, bg, en, nc, te, tc, nI nV, vc', nI og, nI ov, gc', f, p, a1, a2, a3, a4, a5, a6, a7, a8) := by
  have same : q = og → post (io, bg, en, nc, te, tc, nI nV, vc', nI og, nI ov, gc', f, p, a1, a2, a3, a4, a5, a6, a7, a8) := by
    intro e
    rw [e] at pi H
    exact H nV a6 a7 pi rfl rfl (fun _ _ => rfl) (fun _ _ => rfl)
  refine pk_le og 0 (fun z => same (by omega)) (fun z => pk_eq ov 0 (fun z2 => ?_) (fun z2 => same (by omega)))
  have hq : q + 1 = og := by omega
  have go : ∀ x : Int32, (q = 0 ∧ x = 0) ∨ (0 < q ∧ x = 1) → post (io, bg, en, nc, te, tc, nI (nV + 1), vc', nI og, nI ov, gc', f, p, a1, a2, a3, a4, a5, upd a6 nV x, upd a7 nV 1, a8) := by
    intro x hx
    have pi' := dr_PiV pi (x := x) (y := 1) (by omega) hx (Or.inr (by decide))
    rw [hq] at pi'
    refine H (nV + 1) (upd a6 nV x) (upd a7 nV 1) pi' (by omega) ?_ (fun j hj => dr_u j hj) (fun j hj => dr_u j hj)
    rw [dr_ucs, if_neg (by decide)]
  refine pk_le og 1 (fun z3 => ?_) (fun z3 => ?_)
  · exact dr_addV (by omega) (go 0 (Or.inl ⟨by omega, rfl⟩))
  · exact dr_addV (by omega) (go 1 (Or.inr ⟨by omega, rfl⟩))
theorem dr_group {post : Int32 → St1 → Prop} {x y : Int32} (inv : dr_Inv pT pV o E B NC nT tc nV vc og ov gc a1 a3 a4 a6 a7)
    (H : dr_Nx pT pV E o a1 a2 a3 a4 a5 a6 a7 a8 f p (fun u => ∀ r, post r u)) :
    wpX_group post (nI o, nI B, nI E, nI NC, nI nT, nI tc, nI nV, nI vc, nI og, nI ov, nI gc, f, p, a1, a2, a3, a4, a5, a6, a7, a8) x y := by
  have st := dr_stay inv H
  obtain ⟨k, q, pi, c, b, e4, e7, e1⟩ := inv
  have h := pi.1
  refine pk_eq o 0 (fun _ => st _) (fun ho => pk_le 4 og (fun _ => st _) (fun hog => pk_lt gc 40 (fun hgc => ?_) (fun _ => st _)))
  have c' : o = 1 ∧ B = E + 1 ∧ k = og ∧ ((og = 0 ∧ q = 0) ∨ (0 < og ∧ ov = 0 ∧ q + 1 = og) ∨ (0 < og ∧ 0 < ov ∧ q = og)) := by
    rcases c with z | z
    · exact absurd z.1 ho
    · exact z
  obtain ⟨o1, hB, hk, cc⟩ := c'
  subst hk
  refine dr_close pi cc (by omega) (by omega) (by omega) (fun nV' a6' a7' pi' hV' ec ag6 ag7 => ?_)
  have h' := pi'.1
  have c4m := dr_c_mo a4 (show pT ≤ nT by omega)
  have c7m := dr_c_mo a7 h.2.1
  have go : ∀ (w d : Int32) (tc' : Nat) (a5' : Nat → Int32), ((k = 0 ∧ w = 0) ∨ (0 < k ∧ w = 1)) → dr_c (upd a4 nT d) (nT + 1) = tc' → tc' ≤ gc + 1 → (∀ j, j < dr_c a4 pT → a5' j = a5 j) →
      post (nI (k + 1)) (nI o, nI B, nI E, nI NC, nI (nT + 1), nI tc', nI nV', nI vc, nI (k + 1), nI 0, nI (gc + 1), f, p, a1, a2, upd a3 nT w, upd a4 nT d, a5', a6', a7', a8) := by
    intro w d tc' a5' hw hd ht g5
    have pi2 := dr_PiT pi' hw
    refine H B NC (nT + 1) tc' nV' vc (k + 1) 0 (gc + 1) a1 a2 (upd a3 nT w) (upd a4 nT d) a5' a6' a7' a8 ⟨k + 1, k, pi2, Or.inr ⟨o1, hB, rfl, Or.inr (Or.inl ⟨by omega, rfl, rfl⟩)⟩, by omega, hd, by rw [ec]; exact e7, e1⟩ ?_ _
    exact dr_PiA pi2 (Nat.le_refl _) (by omega) (by omega) (by omega) (fun _ _ => rfl) (fun _ _ => rfl) (fun j hj => dr_u j (by omega)) (fun j hj => dr_u j (by omega)) g5 (fun j hj => ag6 j (by omega)) (fun j hj => ag7 j (by omega)) (fun _ _ => rfl)
  have go2 : ∀ w : Int32, ((k = 0 ∧ w = 0) ∨ (0 < k ∧ w = 1)) → wX_group_43 post x y w (nI o) (nI B) (nI E) (nI NC) (nI nT) (nI tc) (nI nV') (nI vc) (nI k) (nI ov) (nI gc) f p a1 a2 a3 a4 a5 a6' a7' a8 := by
    intro w hw
    by_cases hx : x = 0
    · refine br_t hx ?_
      refine dr_addT (by omega) ?_
      refine br_t hx ?_
      exact nm_r (nI_1 k) (nm_r (nI_1 gc) (go w 1 tc a5 hw (by rw [dr_ucs, if_neg (by decide)]; exact e4) (by omega) (fun _ _ => rfl)))
    · refine br_f hx ?_
      refine dr_addT (by omega) ?_
      refine br_f hx ⟨pk_in tc 40 (by omega), ?_⟩
      rw [nI_clamp (show tc < 2 ^ 31 by omega)]
      exact nm_e (nm_r (nI_1 tc) (nm_r (nI_1 k) (nm_r (nI_1 gc) (go w 2 (tc + 1) (upd a5 tc y) hw (by rw [dr_ucs, if_pos rfl, e4]) (by omega) (fun j hj => dr_u j (by omega))))))
  exact pk_eq k 0 (fun z => go2 0 (Or.inl ⟨z, rfl⟩)) (fun z => go2 1 (Or.inr ⟨by omega, rfl⟩))
theorem dr_value {post : Int32 → St1 → Prop} {x : Int32} (inv : dr_Inv pT pV o E B NC nT tc nV vc og ov gc a1 a3 a4 a6 a7)
    (H : dr_Nx pT pV E o a1 a2 a3 a4 a5 a6 a7 a8 f p (fun u => ∀ r, post r u)) :
    wpX_value post (nI o, nI B, nI E, nI NC, nI nT, nI tc, nI nV, nI vc, nI og, nI ov, nI gc, f, p, a1, a2, a3, a4, a5, a6, a7, a8) x := by
  have st := dr_stay inv H
  obtain ⟨k, q, pi, c, b, e4, e7, e1⟩ := inv
  have h := pi.1
  refine pk_eq o 0 (fun _ => st _) (fun ho => pk_eq og 0 (fun _ => st _) (fun hog => pk_le 4 ov (fun _ => st _) (fun hov => pk_lt vc 60 (fun hvc => ?_) (fun _ => st _))))
  have c' : o = 1 ∧ B = E + 1 ∧ k = og ∧ ((og = 0 ∧ q = 0) ∨ (0 < og ∧ ov = 0 ∧ q + 1 = og) ∨ (0 < og ∧ 0 < ov ∧ q = og)) := by
    rcases c with z | z
    · exact absurd z.1 ho
    · exact z
  obtain ⟨o1, hB, hk, cc⟩ := c'
  subst hk
  have c7m := dr_c_mo a7 h.2.1
  have go : ∀ w : Int32, dr_Pi E pT pV k k nT (nV + 1) a3 (upd a6 nV w) (upd a7 nV 2) → wX_value_58 post x w (nI o) (nI B) (nI E) (nI NC) (nI nT) (nI tc) (nI nV) (nI vc) (nI k) (nI ov) (nI gc) f p a1 a2 a3 a4 a5 a6 a7 a8 := by
    intro w pi2
    refine dr_addV (by omega) ?_
    refine ⟨pk_in vc 60 hvc, ?_⟩
    rw [nI_clamp (show vc < 2 ^ 31 by omega)]
    refine nm_e (nm_r (nI_1 vc) (nm_r (nI_1 ov) ?_))
    refine H B NC nT tc (nV + 1) (vc + 1) k (ov + 1) gc a1 a2 a3 a4 a5 (upd a6 nV w) (upd a7 nV 2) (upd a8 vc x) ⟨k, k, pi2, Or.inr ⟨o1, hB, rfl, Or.inr (Or.inr ⟨by omega, by omega, rfl⟩)⟩, by omega, e4, by rw [dr_ucs, if_pos rfl, e7], e1⟩ ?_ _
    exact dr_PiA pi2 (Nat.le_refl _) (by omega) (by omega) (by omega) (fun _ _ => rfl) (fun _ _ => rfl) (fun _ _ => rfl) (fun _ _ => rfl) (fun _ _ => rfl) (fun j hj => dr_u j (by omega)) (fun j hj => dr_u j (by omega)) (fun j hj => dr_u j (by omega))
  refine pk_le ov 0 (fun z => ?_) (fun z => ?_)
  · have hq : q + 1 = k := by omega
    refine pk_le k 1 (fun z3 => ?_) (fun z3 => ?_)
    · have pi2 := dr_PiV pi (x := 0) (y := 2) (by omega) (Or.inl ⟨by omega, rfl⟩) (Or.inl rfl)
      rw [hq] at pi2
      exact go 0 pi2
    · have pi2 := dr_PiV pi (x := 1) (y := 2) (by omega) (Or.inr ⟨by omega, rfl⟩) (Or.inl rfl)
      rw [hq] at pi2
      exact go 1 pi2
  · have hq : q = k := by omega
    rw [hq] at pi
    exact go 2 (dr_PiW pi (by omega))
theorem dr_end {post : Int32 → St1 → Prop} (inv : dr_Inv pT pV o E B NC nT tc nV vc og ov gc a1 a3 a4 a6 a7)
    (H0 : o = 0 → post (-1) (nI o, nI B, nI E, nI NC, nI nT, nI tc, nI nV, nI vc, nI og, nI ov, nI gc, f, p, a1, a2, a3, a4, a5, a6, a7, a8))
    (H1 : o = 1 → ∀ (nT' nV' : Nat) (a3' a4' a6' a7' : Nat → Int32), dr_Inv nT' nV' 0 (E + 1) B NC nT' tc nV' vc og ov gc a1 a3' a4' a6' a7' →
      dr_Ag E pT pV a1 a2 a3 a4 a5 a6 a7 a8 (E + 1) nT' nV' a1 a2 a3' a4' a5 a6' a7' a8 → dr_z a6' nV' ≤ E + 1 →
      post (nI (E + 1)) (nI 0, nI B, nI (E + 1), nI NC, nI nT', nI tc, nI nV', nI vc, nI og, nI ov, nI gc, f, p, a1, a2, a3', a4', a5, a6', a7', a8)) :
    wpX_end post (nI o, nI B, nI E, nI NC, nI nT, nI tc, nI nV, nI vc, nI og, nI ov, nI gc, f, p, a1, a2, a3, a4, a5, a6, a7, a8) := by
  obtain ⟨k, q, pi, c, b, e4, e7, e1⟩ := inv
  have h := pi.1
  refine pk_eq o 0 (fun z => H0 z) (fun ho => ?_)
  have c' : o = 1 ∧ B = E + 1 ∧ k = og ∧ ((og = 0 ∧ q = 0) ∨ (0 < og ∧ ov = 0 ∧ q + 1 = og) ∨ (0 < og ∧ 0 < ov ∧ q = og)) := by
    rcases c with z | z
    · exact absurd z.1 ho
    · exact z
  obtain ⟨o1, hB, hk, cc⟩ := c'
  subst hk
  refine dr_close pi cc (by omega) (by omega) (by omega) (fun nV' a6' a7' pi' hV' ec ag6 ag7 => ?_)
  have h' := pi'.1
  have go : ∀ (m nT2 nV2 : Nat) (b3 b4 b6 b7 : Nat → Int32), 0 < m → dr_Pi E pT pV m m nT2 nV2 b3 b6 b7 → nT2 ≤ gc + E + 1 → nV2 ≤ vc + gc + E + 1 → dr_c b4 nT2 = tc → dr_c b7 nV2 = vc →
      (∀ j, j < pT → b3 j = a3 j) → (∀ j, j < pT → b4 j = a4 j) → (∀ j, j < pV → b6 j = a6 j) → (∀ j, j < pV → b7 j = a7 j) →
      wX_end_32 post (nI o) (nI B) (nI E) (nI NC) (nI nT2) (nI tc) (nI nV2) (nI vc) (nI k) (nI ov) (nI gc) f p a1 a2 b3 b4 a5 b6 b7 a8 := by
    intro m nT2 nV2 b3 b4 b6 b7 m0 pj hT hV f4 f7 g3 g4 g6 g7
    have pk := dr_PiE pj m0
    refine nm_r (nI_1 E) ?_
    refine H1 o1 nT2 nV2 b3 b4 b6 b7 ⟨0, 0, pk, Or.inl ⟨rfl, hB, rfl, rfl⟩, by omega, f4, f7, e1⟩ ?_ (dr_PiB pj).2
    exact dr_PiA pj (by omega) (by omega) (by omega) (by omega) (fun _ _ => rfl) (fun _ _ => rfl) g3 g4 (fun _ _ => rfl) g6 g7 (fun _ _ => rfl)
  refine pk_eq k 0 (fun z => ?_) (fun z => ?_)
  · subst z
    have pi2 := dr_PiT pi' (x := 0) (Or.inl ⟨rfl, rfl⟩)
    have pi3 := dr_PiV pi2 (x := 0) (y := 0) (by omega) (Or.inl ⟨rfl, rfl⟩) (Or.inr (by decide))
    refine dr_addT (by omega) ?_
    refine dr_addV (by omega) ?_
    refine go 1 (nT + 1) (nV' + 1) (upd a3 nT 0) (upd a4 nT 0) (upd a6' nV' 0) (upd a7' nV' 0) (by omega) pi3 (by omega) (by omega) ?_ ?_ (fun j hj => dr_u j (by omega)) (fun j hj => dr_u j (by omega)) (fun j hj => ?_) (fun j hj => ?_)
    · rw [dr_ucs, if_neg (by decide)]; exact e4
    · rw [dr_ucs, if_neg (by decide), ec]; exact e7
    · rw [dr_u j (by omega)]; exact ag6 j (by omega)
    · rw [dr_u j (by omega)]; exact ag7 j (by omega)
  · exact go k nT nV' a3 a4 a6' a7' (by omega) pi' (by omega) (by omega) e4 (by rw [ec]; exact e7) (fun _ _ => rfl) (fun _ _ => rfl) (fun j hj => ag6 j (by omega)) (fun j hj => ag7 j (by omega))
end
end
section
/-! the law, a turn of its loop -/
/-- the loop goes on from every good state -/
def dr_HJ (J15 : Int32 → Int32 → Int32 → Int32 → Int32 → Int32 → Int32 → Int32 → Int32 → Int32 → Int32 → Int32 → Int32 → Int32 → Int32 → Int32 → (Nat → Int32) → (Nat → Int32) → (Nat → Int32) → (Nat → Int32) → (Nat → Int32) → (Nat → Int32) → (Nat → Int32) → (Nat → Int32) → Prop) (i : Nat) : Prop :=
  ∀ (pT pV o E B NC nT tc nV vc og ov gc : Nat) (a1 a2 a3 a4 a5 a6 a7 a8 : Nat → Int32) (f p : Int32), dr_Inv pT pV o E B NC nT tc nV vc og ov gc a1 a3 a4 a6 a7 →
    J15 (nI E) (nI o) (nI i) (nI o) (nI B) (nI E) (nI NC) (nI nT) (nI tc) (nI nV) (nI vc) (nI og) (nI ov) (nI gc) f p a1 a2 a3 a4 a5 a6 a7 a8
section
variable {L kc ks i : Nat} {xs : Nat → Int32} {J15 : Int32 → Int32 → Int32 → Int32 → Int32 → Int32 → Int32 → Int32 → Int32 → Int32 → Int32 → Int32 → Int32 → Int32 → Int32 → Int32 → (Nat → Int32) → (Nat → Int32) → (Nat → Int32) → (Nat → Int32) → (Nat → Int32) → (Nat → Int32) → (Nat → Int32) → (Nat → Int32) → Prop}
variable {pT pV o E B NC nT tc nV vc og ov gc : Nat} {a1 a2 a3 a4 a5 a6 a7 a8 A1 A2 A3 A4 A5 A6 A7 A8 : Nat → Int32} {f p x5 x6 x7 Y : Int32}
/-- behind the op: state, sumByTag, recordsWith are as before -/
theorem dr_l182 (fz : dr_Fz E pT pV A3 A4 A6 A7) (hS : dr_Ans E pT pV A1 A2 A3 A4 A5 A6 A7 A8 (fun post u => wpL_state post u (nI E)) Y)
    (inv : dr_Inv pT pV o E B NC nT tc nV vc og ov gc a1 a3 a4 a6 a7) (ag : dr_Ag E pT pV A1 A2 A3 A4 A5 A6 A7 A8 E nT nV a1 a2 a3 a4 a5 a6 a7 a8)
    (G : ∀ f p : Int32, wL_law_224 (fun r => r = 1) L xs J15 (nI E) (nI o) (nI i) x5 x6 x7 Y (nI (dr_rw x6 x7 E A6 A7 A8 pV).1) kc ks (nI o) (nI B) (nI E) (nI NC) (nI nT) (nI tc) (nI nV) (nI vc) (nI og) (nI ov) (nI gc) f p a1 a2 a3 a4 a5 a6 a7 a8) :
    wL_law_182 (fun r => r = 1) L xs J15 (nI E) (nI o) (nI i) x5 x6 x7 Y (dr_sw x6 E A4 A5 A6 A7 A8 pV).1 (nI (dr_rw x6 x7 E A6 A7 A8 pV).1) kc ks (nI o) (nI B) (nI E) (nI NC) (nI nT) (nI tc) (nI nV) (nI vc) (nI og) (nI ov) (nI gc) f p a1 a2 a3 a4 a5 a6 a7 a8 := by
  obtain ⟨b1, b2, b3, b4, b5, b6, b7⟩ := dr_InvB inv
  unfold wL_law_182
  refine hS E nT nV a1 a2 a3 a4 a5 a6 a7 a8 ag _ _ _ _ _ _ _ _ f p _ (fun f' p' => ?_)
  refine br_t rfl ?_
  by_cases h3 : x5 = 3
  · exact br_t h3 (G f' p')
  · refine br_f h3 ?_
    refine dr_tag b1 b3 b4 b5 b6 ?_
    refine br_t (dr_sw_all fz ag x6) ?_
    refine dr_rec b1 b3 b6 ?_
    exact br_t (by rw [dr_rw_all fz ag x6 x7]) (G f' p')
theorem dr_fin (fz : dr_Fz E pT pV A3 A4 A6 A7) (hS : dr_Ans E pT pV A1 A2 A3 A4 A5 A6 A7 A8 (fun post u => wpL_state post u (nI E)) Y)
    (inv : dr_Inv pT pV o E B NC nT tc nV vc og ov gc a1 a3 a4 a6 a7) (ag : dr_Ag E pT pV A1 A2 A3 A4 A5 A6 A7 A8 E nT nV a1 a2 a3 a4 a5 a6 a7 a8)
    (h3 : ¬ x5 = 3) (h5 : ¬ x5 = 5) (hJ : dr_HJ J15 (i + 3)) :
    wL_law_182 (fun r => r = 1) L xs J15 (nI E) (nI o) (nI i) x5 x6 x7 Y (dr_sw x6 E A4 A5 A6 A7 A8 pV).1 (nI (dr_rw x6 x7 E A6 A7 A8 pV).1) kc ks (nI o) (nI B) (nI E) (nI NC) (nI nT) (nI tc) (nI nV) (nI vc) (nI og) (nI ov) (nI gc) f p a1 a2 a3 a4 a5 a6 a7 a8 := by
  refine dr_l182 fz hS inv ag (fun f p => ?_)
  exact br_f h3 (br_f h5 (nm_r (nI_add i 3) (hJ pT pV o E B NC nT tc nV vc og ov gc a1 a2 a3 a4 a5 a6 a7 a8 f p inv)))
/-- end, and what the law asks behind it -/
theorem dr_l236 (hS : dr_Ans E pT pV a1 a2 a3 a4 a5 a6 a7 a8 (fun post u => wpL_state post u (nI E)) Y)
    (inv : dr_Inv pT pV o E B NC nT tc nV vc og ov gc a1 a3 a4 a6 a7) (hJ : dr_HJ J15 (i + 3)) :
    wL_law_236 (fun r => r = 1) L xs J15 (nI E) (nI o) (nI i) x6 x7 Y (nI (dr_rw x6 x7 E a6 a7 a8 pV).1) kc ks (nI o) (nI B) (nI E) (nI NC) (nI nT) (nI tc) (nI nV) (nI vc) (nI og) (nI ov) (nI gc) f p a1 a2 a3 a4 a5 a6 a7 a8 := by
  have fz := dr_InvF inv
  have ag := dr_InvA (a2 := a2) (a5 := a5) (a8 := a8) inv
  have hE := ag.1
  unfold wL_law_236
  refine dr_end inv (fun o0 => ?_) (fun o1 nT' nV' a3' a4' a6' a7' inv' ag' hz => ?_)
  · refine br_t rfl ?_
    refine br_f (by rw [o0]; decide) ?_
    refine hS E nT nV a1 a2 a3 a4 a5 a6 a7 a8 ag _ _ _ _ _ _ _ _ f p _ (fun f' p' => ?_)
    refine br_t rfl (br_t (by decide) ?_)
    subst o0
    exact br_t (by decide) (nm_r (nI_add i 3) (hJ pT pV 0 E B NC nT tc nV vc og ov gc a1 a2 a3 a4 a5 a6 a7 a8 f' p' inv))
  · have hE' := ag'.1
    obtain ⟨b1, b2, b3, b4, b5, b6, b7⟩ := dr_InvB inv'
    have up := dr_rw_up fz ag' hz x6 x7
    have bd := (dr_rw_le x6 x7 E a6 a7 a8 pV).1
    obtain ⟨y, hy, _, Gr⟩ := dr_gr (A1 := a1) (A2 := a2) (A5 := a5) (A8 := a8) (dr_InvF inv') (show E < E + 1 by omega)
    refine br_f (fun z => absurd (show nI (E + 1) < 0 by rw [z]; decide) (nI_pos (by omega))) ?_
    refine br_f (by rw [o1]; decide) ?_
    refine hS (E + 1) nT' nV' a1 a2 a3' a4' a5 a6' a7' a8 ag' _ _ _ _ _ _ _ _ f p _ (fun f' p' => ?_)
    refine br_t rfl (br_f (nI_pos (by omega)) (br_t (nI_1 E).symm ?_))
    refine dr_rec b1 b3 b6 ?_
    refine br_f (nI_nlt (by omega) (by omega)) ?_
    refine dr_rec b1 b3 b6 ?_
    refine br_f (by rw [nI_1]; exact nI_nlt (by omega) (by omega)) ?_
    refine Gr (E + 1) nT' nV' a1 a2 a3' a4' a5 a6' a7' a8 (dr_InvA inv') _ _ _ _ _ _ _ _ f' p' _ (fun f2 p2 => ?_)
    refine br_t (nI_pos' (by omega)) ?_
    exact br_f (nI_pos (by omega)) (nm_r (nI_add i 3) (hJ nT' nV' 0 (E + 1) B NC nT' tc nV' vc og ov gc a1 a2 a3' a4' a5 a6' a7' a8 f2 p2 inv'))
end
end
section
/-! one turn by its kind; the loop; the statement -/
section
variable {L kc ks i : Nat} {xs : Nat → Int32} {J15 : Int32 → Int32 → Int32 → Int32 → Int32 → Int32 → Int32 → Int32 → Int32 → Int32 → Int32 → Int32 → Int32 → Int32 → Int32 → Int32 → (Nat → Int32) → (Nat → Int32) → (Nat → Int32) → (Nat → Int32) → (Nat → Int32) → (Nat → Int32) → (Nat → Int32) → (Nat → Int32) → Prop}
variable {pT pV o E B NC nT tc nV vc og ov gc : Nat} {a1 a2 a3 a4 a5 a6 a7 a8 A1 A2 A3 A4 A5 A6 A7 A8 : Nat → Int32} {f p x6 x7 Y : Int32}
/-- begin -/
theorem dr_k0 (hS : dr_Ans E pT pV a1 a2 a3 a4 a5 a6 a7 a8 (fun post u => wpL_state post u (nI E)) Y) (inv : dr_Inv pT pV o E B NC nT tc nV vc og ov gc a1 a3 a4 a6 a7) (hJ : dr_HJ J15 (i + 3)) {x : Int32} (hx : x = 0 ∨ x = 1) :
    wL_law_92 (fun r => r = 1) L xs J15 (nI E) (nI o) (nI i) (nI 0) x6 x7 Y (dr_sw x6 E a4 a5 a6 a7 a8 pV).1 (nI (dr_rw x6 x7 E a6 a7 a8 pV).1) x kc ks (nI o) (nI B) (nI E) (nI NC) (nI nT) (nI tc) (nI nV) (nI vc) (nI og) (nI ov) (nI gc) f p a1 a2 a3 a4 a5 a6 a7 a8 := by
  have fz := dr_InvF inv
  have ho : o = 0 ∨ o = 1 := by
    obtain ⟨k, q, pi, c, b, e⟩ := inv
    rcases c with z | z
    · exact Or.inl z.1
    · exact Or.inr z.1
  unfold wL_law_92
  refine dr_begin inv hx ?_ ?_
  · intro B' NC' nT' tc' nV' vc' og' ov' gc' b1 b2 b3 b4 b5 b6 b7 b8 inv' ag'
    refine br_f (by decide) ?_
    rcases ho with z | z
    · subst z
      refine br_t rfl ?_
      exact br_f (by decide) (br_f (by decide) (br_f (by decide) (br_f (by decide) (br_f (by decide) (dr_fin fz hS inv' ag' (by decide) (by decide) hJ)))))
    · subst z
      refine br_f (by decide) ?_
      exact br_f (by decide) (br_f (by decide) (br_f (by decide) (br_f (by decide) (br_f (by decide) (dr_fin fz hS inv' ag' (by decide) (by decide) hJ)))))
  · intro B' NC' nT' tc' nV' vc' og' ov' gc' b1 b2 b3 b4 b5 b6 b7 b8 inv' ag' r hr
    refine br_t (nI_pos' (by omega)) ?_
    exact br_f (by decide) (br_f (by decide) (br_f (by decide) (br_f (by decide) (br_f (by decide) (dr_fin fz hS inv' ag' (by decide) (by decide) hJ)))))
/-- group -/
theorem dr_k1 (hS : dr_Ans E pT pV a1 a2 a3 a4 a5 a6 a7 a8 (fun post u => wpL_state post u (nI E)) Y) (inv : dr_Inv pT pV o E B NC nT tc nV vc og ov gc a1 a3 a4 a6 a7) (hJ : dr_HJ J15 (i + 3)) {x5 : Int32}
    (n2 : ¬ x5 = 2) (n3 : ¬ x5 = 3) (n4 : ¬ x5 = 4) (n5 : ¬ x5 = 5) (n7 : ¬ x5 = 7) :
    wL_law_123 (fun r => r = 1) L xs J15 (nI E) (nI o) (nI i) x5 x6 x7 Y (dr_sw x6 E a4 a5 a6 a7 a8 pV).1 (nI (dr_rw x6 x7 E a6 a7 a8 pV).1) kc ks (nI o) (nI B) (nI E) (nI NC) (nI nT) (nI tc) (nI nV) (nI vc) (nI og) (nI ov) (nI gc) f p a1 a2 a3 a4 a5 a6 a7 a8 := by
  have fz := dr_InvF inv
  have go : ∀ x y : Int32, wL_law_152 (fun r => r = 1) L xs J15 (nI E) (nI o) (nI i) x5 x6 x7 Y (dr_sw x6 E a4 a5 a6 a7 a8 pV).1 (nI (dr_rw x6 x7 E a6 a7 a8 pV).1) x y kc ks (nI o) (nI B) (nI E) (nI NC) (nI nT) (nI tc) (nI nV) (nI vc) (nI og) (nI ov) (nI gc) f p a1 a2 a3 a4 a5 a6 a7 a8 := by
    intro x y
    unfold wL_law_152
    refine dr_group inv ?_
    intro B' NC' nT' tc' nV' vc' og' ov' gc' b1 b2 b3 b4 b5 b6 b7 b8 inv' ag' r
    exact br_f n2 (br_f n4 (br_f n7 (dr_fin fz hS inv' ag' n3 n5 hJ)))
  unfold wL_law_123
  refine br_c (fun _ => ?_) (fun _ => ?_)
  · unfold wL_law_136
    exact br_c (fun _ => go _ _) (fun _ => go _ _)
  · unfold wL_law_136
    exact br_c (fun _ => go _ _) (fun _ => go _ _)
/-- value -/
theorem dr_k2 (hS : dr_Ans E pT pV a1 a2 a3 a4 a5 a6 a7 a8 (fun post u => wpL_state post u (nI E)) Y) (inv : dr_Inv pT pV o E B NC nT tc nV vc og ov gc a1 a3 a4 a6 a7) (hJ : dr_HJ J15 (i + 3)) {x5 : Int32}
    (n3 : ¬ x5 = 3) (n5 : ¬ x5 = 5) :
    wL_law_175 (fun r => r = 1) L xs J15 (nI E) (nI o) (nI i) x5 x6 x7 Y (dr_sw x6 E a4 a5 a6 a7 a8 pV).1 (nI (dr_rw x6 x7 E a6 a7 a8 pV).1) kc ks (nI o) (nI B) (nI E) (nI NC) (nI nT) (nI tc) (nI nV) (nI vc) (nI og) (nI ov) (nI gc) f p a1 a2 a3 a4 a5 a6 a7 a8 := by
  have fz := dr_InvF inv
  unfold wL_law_175
  refine dr_value inv ?_
  intro B' NC' nT' tc' nV' vc' og' ov' gc' b1 b2 b3 b4 b5 b6 b7 b8 inv' ag' r
  exact dr_fin fz hS inv' ag' n3 n5 hJ
/-- end -/
theorem dr_k3 (hS : dr_Ans E pT pV a1 a2 a3 a4 a5 a6 a7 a8 (fun post u => wpL_state post u (nI E)) Y) (inv : dr_Inv pT pV o E B NC nT tc nV vc og ov gc a1 a3 a4 a6 a7) (hJ : dr_HJ J15 (i + 3)) {x5 : Int32}
    (h : x5 = 3 ∨ x5 = 5) :
    wL_law_182 (fun r => r = 1) L xs J15 (nI E) (nI o) (nI i) x5 x6 x7 Y (dr_sw x6 E a4 a5 a6 a7 a8 pV).1 (nI (dr_rw x6 x7 E a6 a7 a8 pV).1) kc ks (nI o) (nI B) (nI E) (nI NC) (nI nT) (nI tc) (nI nV) (nI vc) (nI og) (nI ov) (nI gc) f p a1 a2 a3 a4 a5 a6 a7 a8 := by
  refine dr_l182 (dr_InvF inv) hS inv (dr_InvA inv) (fun f p => ?_)
  rcases h with z | z
  · exact br_t z (dr_l236 hS inv hJ)
  · exact br_f (by rw [z]; decide) (br_t z (dr_l236 hS inv hJ))
/-- the loop -/
theorem dr_loop (hL : L ≤ 260) : ∀ n i : Nat, i ≤ L → L < n + i → dr_HJ (wL_law_15 (fun r => r = 1) L xs kc ks n) i := by
  intro n
  induction n with
  | zero => intro i h1 h2; omega
  | succ n ih =>
    intro i h1 h2 pT pV o E B NC nT tc nV vc og ov gc a1 a2 a3 a4 a5 a6 a7 a8 f p inv
    have fz := dr_InvF inv
    have ag := dr_InvA (a2 := a2) (a5 := a5) (a8 := a8) inv
    obtain ⟨b1, b2, b3, b4, b5, b6, b7⟩ := dr_InvB inv
    refine pk_lt L (i + 3) (fun _ => rfl) (fun hi => ?_) (hy := nI_add i 3)
    have hJ : dr_HJ (wL_law_15 (fun r => r = 1) L xs kc ks n) (i + 3) := ih (i + 3) (by omega) (by omega)
    obtain ⟨Y, hS⟩ := dr_st (A1 := a1) (A2 := a2) (A5 := a5) (A8 := a8) fz
    refine ⟨pk_in i L (by omega), ?_⟩
    intro x5 e5
    refine ⟨pk_in (i + 1) L (by omega) (nI_add i 1), ?_⟩
    intro x6 e6
    refine ⟨pk_in (i + 2) L (by omega) (nI_add i 2), ?_⟩
    intro x7 e7
    obtain ⟨k, hk, ek⟩ := pk_andE (xs (nI i).toNatClampNeg) (m := 7) 3 (by decide)
    rw [ek] at e5
    clear ek e6 e7
    refine hS E nT nV a1 a2 a3 a4 a5 a6 a7 a8 ag _ _ _ _ _ _ _ _ f p _ (fun f' p' => ?_)
    refine dr_tag b1 b3 b4 b5 b6 ?_
    refine dr_rec b1 b3 b6 ?_
    rw [dr_sw_all fz ag x6, dr_rw_all fz ag x6 x7]
    subst e5
    have hk' : k = 0 ∨ k = 1 ∨ k = 2 ∨ k = 3 ∨ k = 4 ∨ k = 5 ∨ k = 6 ∨ k = 7 := by omega
    rcases hk' with z | z | z | z | z | z | z | z
    · subst z
      refine br_t rfl ?_
      exact br_c (fun _ => dr_k0 hS inv hJ (Or.inl rfl)) (fun _ => dr_k0 hS inv hJ (Or.inr rfl))
    · subst z
      refine br_f (by decide) ?_
      exact br_t rfl (dr_k1 hS inv hJ (by decide) (by decide) (by decide) (by decide) (by decide))
    · subst z
      refine br_f (by decide) ?_
      exact br_f (by decide) (br_f (by decide) (br_t rfl (dr_k2 hS inv hJ (by decide) (by decide))))
    · subst z
      refine br_f (by decide) ?_
      exact br_f (by decide) (br_f (by decide) (br_f (by decide) (br_f (by decide) (br_f (by decide) (dr_k3 hS inv hJ (Or.inl rfl))))))
    · subst z
      refine br_f (by decide) ?_
      exact br_f (by decide) (br_f (by decide) (br_f (by decide) (br_t rfl (dr_k2 hS inv hJ (by decide) (by decide)))))
    · subst z
      refine br_f (by decide) ?_
      exact br_f (by decide) (br_f (by decide) (br_f (by decide) (br_f (by decide) (br_f (by decide) (dr_k3 hS inv hJ (Or.inr rfl))))))
    · subst z
      refine br_f (by decide) ?_
      exact br_f (by decide) (br_t rfl (dr_k1 hS inv hJ (by decide) (by decide) (by decide) (by decide) (by decide)))
    · subst z
      refine br_f (by decide) ?_
      exact br_f (by decide) (br_f (by decide) (br_f (by decide) (br_f (by decide) (br_t rfl (dr_k2 hS inv hJ (by decide) (by decide))))))
end
theorem i_vc (xs : Nat → Int32) (L : Nat) (hL : L ≤ 260) : wpL_law (fun r => r = 1) L xs := by
  refine ⟨8, 452, by omega, by omega, ?_⟩
  refine ⟨by omega, by omega, by omega, by omega, by omega, by omega, by omega, by omega, by omega, by omega, by omega, by omega, by omega, by omega, by omega, by omega, ?_⟩
  refine ⟨L + 1, ?_⟩
  exact dr_loop hL (L + 1) 0 (by omega) (by omega) 0 0 0 0 0 0 0 0 0 0 0 0 0 (fun _ => 0) (fun _ => 0) (fun _ => 0) (fun _ => 0) (fun _ => 0) (fun _ => 0) (fun _ => 0) (fun _ => 0) 0 0 ⟨0, 0, dr_Pi0, Or.inl ⟨rfl, rfl, rfl, rfl⟩, by omega, rfl, rfl, rfl⟩
end
