section
/-- c areas in order: first pages F, ends T, kinds K -/
def mz_Ok (c : Nat) (F T K : Nat → Nat) : Prop :=
  (∀ i, i < c → F i < T i ∧ T i ≤ 64 ∧ K i ≤ 127) ∧ (∀ i, i + 1 < c → T i ≤ F (i + 1) ∧ ¬ (T i = F (i + 1) ∧ K i = K (i + 1)))
/-- the arrays hold them -/
def mz_In (c : Nat) (F T K : Nat → Nat) (a b k : Nat → Int32) : Prop :=
  ∀ i, i < c → a i = nI (F i) ∧ b i = nI (T i) ∧ k i = nI (K i)
/-- the end of the last of i areas -/
def mz_pg (T : Nat → Nat) : Nat → Nat
  | 0 => 0
  | i + 1 => T i
theorem mz_pgF {c : Nat} {F T K : Nat → Nat} (h : mz_Ok c F T K) {i : Nat} (hi : i < c) : mz_pg T i ≤ F i := by
  cases i with
  | zero => exact Nat.zero_le _
  | succ i => exact (h.2 i hi).1
theorem mz_pg64 {c : Nat} {F T K : Nat → Nat} (h : mz_Ok c F T K) {i : Nat} (hi : i ≤ c) : mz_pg T i ≤ 64 := by
  cases i with
  | zero => exact Nat.zero_le _
  | succ i => exact (h.1 i hi).2.1
theorem mz_sep {c : Nat} {F T K : Nat → Nat} (h : mz_Ok c F T K) (i : Nat) : ∀ d, i + 1 + d < c → T i ≤ F (i + 1 + d) := by
  intro d
  induction d with
  | zero => exact fun hd => (h.2 i hd).1
  | succ d ih =>
    intro hd
    have h1 := ih (by omega)
    have h2 := h.1 (i + 1 + d) (by omega)
    have h3 := (h.2 (i + 1 + d) (by omega)).1
    rw [show i + 1 + (d + 1) = i + 1 + d + 1 by omega]
    omega
theorem mz_lt {c : Nat} {F T K : Nat → Nat} (h : mz_Ok c F T K) {i j : Nat} (hij : i < j) (hj : j < c) : T i ≤ F j := by
  have h1 := mz_sep h i (j - i - 1) (by omega)
  rw [show i + 1 + (j - i - 1) = j by omega] at h1
  exact h1
theorem mz_uni {c : Nat} {F T K : Nat → Nat} (h : mz_Ok c F T K) {p i j : Nat} (hi : i < c) (hj : j < c) (ai : F i ≤ p ∧ p < T i) (aj : F j ≤ p ∧ p < T j) : i = j := by
  rcases Nat.lt_trichotomy i j with z | z | z
  · have h1 := mz_lt h z hj
    omega
  · exact z
  · have h1 := mz_lt h z hi
    omega
/-- the area of a page and one, or 0 -/
def mz_ix (F T : Nat → Nat) (p : Nat) : Nat → Nat
  | 0 => 0
  | c + 1 => if F c ≤ p ∧ p < T c then c + 1 else mz_ix F T p c
theorem mz_ix_no {F T : Nat → Nat} {p : Nat} (c : Nat) (h : ∀ i, i < c → ¬ (F i ≤ p ∧ p < T i)) : mz_ix F T p c = 0 := by
  induction c with
  | zero => rfl
  | succ c ih =>
    show (if F c ≤ p ∧ p < T c then c + 1 else mz_ix F T p c) = 0
    rw [if_neg (h c (Nat.lt_succ_self c))]
    exact ih (fun i hi => h i (by omega))
theorem mz_ix_at {F T : Nat → Nat} {p i : Nat} (c : Nat) (hi : i < c) (ha : F i ≤ p ∧ p < T i) (h : ∀ j, j < c → (F j ≤ p ∧ p < T j) → i = j) : mz_ix F T p c = i + 1 := by
  induction c with
  | zero => exact absurd hi (by omega)
  | succ c ih =>
    show (if F c ≤ p ∧ p < T c then c + 1 else mz_ix F T p c) = i + 1
    by_cases q : F c ≤ p ∧ p < T c
    · rw [if_pos q, h c (by omega) q]
    · rw [if_neg q]
      have hne : i ≠ c := fun e => q (e ▸ ha)
      exact ih (by omega) (fun j hj => h j (by omega))
def mz_sel (r : Int32) (f : Nat → Int32) : Nat → Int32
  | 0 => r
  | i + 1 => f i
/-- rights and tag of a page -/
def mz_rt (F T K : Nat → Nat) (c p : Nat) : Int32 := mz_sel (-3) (fun i => nI (K i % 8)) (mz_ix F T p c)
def mz_tg (F T K : Nat → Nat) (c p : Nat) : Int32 := mz_sel (-3) (fun i => nI (K i / 8)) (mz_ix F T p c)
/-- the view after n pages -/
def mz_vw (F T K : Nat → Nat) (c : Nat) : Nat → Int64
  | 0 => 0
  | n + 1 => ((mz_vw F T K c n * 65599) + ((mz_rt F T K c n * 17).toInt64)) + (mz_tg F T K c n).toInt64
/-- the longest gap ahead of i areas; the longest free span -/
def mz_ms (F T : Nat → Nat) : Nat → Nat
  | 0 => 0
  | i + 1 => max (mz_ms F T i) (F i - mz_pg T i)
def mz_lf (F T : Nat → Nat) (c : Nat) : Nat := max (mz_ms F T c) (64 - mz_pg T c)
/-- the mapped pages of a span -/
def mz_mi (F T : Nat → Nat) (lo hi : Nat) : Nat → Nat
  | 0 => 0
  | i + 1 => mz_mi F T lo hi i + (min (T i) hi - max (F i) lo)
/-- the pages of i areas -/
def mz_ln (F T : Nat → Nat) : Nat → Nat
  | 0 => 0
  | i + 1 => mz_ln F T i + (T i - F i)
theorem mz_msS (F T : Nat → Nat) (i : Nat) : mz_ms F T (i + 1) = max (mz_ms F T i) (F i - mz_pg T i) := rfl
theorem mz_miS (F T : Nat → Nat) (lo hi i : Nat) : mz_mi F T lo hi (i + 1) = mz_mi F T lo hi i + (min (T i) hi - max (F i) lo) := rfl
theorem mz_lnS (F T : Nat → Nat) (i : Nat) : mz_ln F T (i + 1) = mz_ln F T i + (T i - F i) := rfl
theorem mz_pgS (T : Nat → Nat) (i : Nat) : mz_pg T (i + 1) = T i := rfl
theorem mz_ln_ms {c : Nat} {F T K : Nat → Nat} (h : mz_Ok c F T K) (i : Nat) (hi : i ≤ c) : mz_ms F T i + mz_ln F T i ≤ mz_pg T i := by
  induction i with
  | zero => exact Nat.le_refl 0
  | succ i ih =>
    have h1 := ih (by omega)
    have h2 := mz_pgF h (show i < c by omega)
    have h3 := (h.1 i (by omega)).1
    rw [mz_msS, mz_lnS, mz_pgS]
    omega
theorem mz_ms64 {c : Nat} {F T K : Nat → Nat} (h : mz_Ok c F T K) (i : Nat) (hi : i ≤ c) : mz_ms F T i ≤ 64 := by
  have h1 := mz_ln_ms h i hi
  have h2 := mz_pg64 h hi
  omega
theorem mz_lf64 {c : Nat} {F T K : Nat → Nat} (h : mz_Ok c F T K) : mz_lf F T c + mz_ln F T c ≤ 64 := by
  have h1 := mz_ln_ms h c (Nat.le_refl c)
  have h2 := mz_pg64 h (Nat.le_refl c)
  show max (mz_ms F T c) (64 - mz_pg T c) + mz_ln F T c ≤ 64
  omega
theorem mz_ms_in {F T : Nat → Nat} {l : Nat} (i : Nat) : ∀ d, l ≤ mz_ms F T i → l ≤ mz_ms F T (i + d) := by
  intro d
  induction d with
  | zero => exact fun h => h
  | succ d ih =>
    intro h
    have h1 := ih h
    have h2 := mz_msS F T (i + d)
    rw [show i + (d + 1) = i + d + 1 by omega]
    omega
theorem mz_lf_gap {F T : Nat → Nat} {c i l : Nat} (hi : i < c) (hl : l ≤ F i - mz_pg T i) : l ≤ mz_lf F T c := by
  have h1 : l ≤ mz_ms F T (i + 1) := by
    rw [mz_msS]
    omega
  have h2 := mz_ms_in (i + 1) (c - (i + 1)) h1
  rw [show i + 1 + (c - (i + 1)) = c by omega] at h2
  show l ≤ max (mz_ms F T c) (64 - mz_pg T c)
  omega
theorem mz_mi_le {c : Nat} {F T K : Nat → Nat} (h : mz_Ok c F T K) (lo hi i : Nat) (hc : i ≤ c) : mz_mi F T lo hi i ≤ 64 * i := by
  induction i with
  | zero => exact Nat.le_refl 0
  | succ i ih =>
    have h1 := ih (by omega)
    have h2 := h.1 i (by omega)
    rw [mz_miS]
    omega
theorem mz_mi_ln {c : Nat} {F T K : Nat → Nat} (h : mz_Ok c F T K) (i : Nat) (hc : i ≤ c) : mz_mi F T 0 64 i = mz_ln F T i := by
  induction i with
  | zero => rfl
  | succ i ih =>
    have h1 := ih (by omega)
    have h2 := h.1 i (by omega)
    rw [mz_miS, mz_lnS]
    omega
theorem mz_mi_0 (F T : Nat → Nat) (c : Nat) : mz_mi F T 0 0 c = 0 := by
  induction c with
  | zero => rfl
  | succ c ih =>
    rw [mz_miS]
    omega
theorem mz_mi_no {F T : Nat → Nat} {p : Nat} (c : Nat) (h : ∀ i, i < c → ¬ (F i ≤ p ∧ p < T i)) : mz_mi F T 0 (p + 1) c = mz_mi F T 0 p c := by
  induction c with
  | zero => rfl
  | succ c ih =>
    have h1 := ih (fun i hi => h i (by omega))
    have h2 := h c (by omega)
    rw [mz_miS, mz_miS]
    omega
theorem mz_mi_at {F T : Nat → Nat} {p i : Nat} (c : Nat) (hi : i < c) (ha : F i ≤ p ∧ p < T i) (h : ∀ j, j < c → (F j ≤ p ∧ p < T j) → i = j) : mz_mi F T 0 (p + 1) c = mz_mi F T 0 p c + 1 := by
  induction c with
  | zero => exact absurd hi (by omega)
  | succ c ih =>
    by_cases e : i = c
    · subst e
      have h1 := mz_mi_no i (p := p) (F := F) (T := T) (fun j hj q => absurd (h j (by omega) q) (by omega))
      rw [mz_miS, mz_miS]
      omega
    · have h1 := ih (by omega) (fun j hj => h j (by omega))
      have h2 : ¬ (F c ≤ p ∧ p < T c) := fun q => e (h c (by omega) q)
      rw [mz_miS, mz_miS]
      omega
/-! numbers -/
theorem mz_8 : ∀ k, k < 128 → (nI k).toInt8.toInt32 = nI k := by decide +kernel
theorem mz_and7 {k : Nat} (h : k < 128) : nI k &&& 7 = nI (k % 8) := pk_andN (by omega) 3 (by decide)
theorem mz_shr3 {k : Nat} (h : k < 128) : nI k >>> ((3 : Int32) &&& 31) = nI (k / 8) := pk_shrN (by omega) _ 3 (by decide)
theorem mz_or : ∀ k, k < 128 → ∀ r, r < 8 → (nI k &&& (-8)) ||| nI r = nI (k / 8 * 8 + r) := by decide +kernel
theorem mz_subLt {a b l : Nat} (ha : a < 2 ^ 29) (hb : b < 2 ^ 29) (hl : l < 2 ^ 29) : nI a - nI b < nI l ↔ a < b + l := by
  rw [Int32.lt_iff_toInt_lt, pk_sub_toInt (by omega) (by omega), nI_toInt (by omega)]
  omega
theorem mz_rd {a : Nat → Int32} {i : Nat} {v : Int32} (e : a i = v) (hi : i < 2 ^ 31) : a (nI i).toNatClampNeg = v := by
  rw [nI_clamp hi]
  exact e
theorem mz_greatest {post : Int32 → Prop} {x y : Int32} (a b : Nat) (hx : x = nI a) (hy : y = nI b) (ha : a < 2 ^ 31) (hb : b < 2 ^ 31) (H : post (nI (max a b))) : wpX_greatest post () x y := by
  subst hx hy
  refine pk_le a b (fun z => ?_) (fun z => ?_)
  · rw [Nat.max_eq_right z] at H
    exact H
  · rw [Nat.max_eq_left (Nat.le_of_lt z)] at H
    exact H
theorem mz_least {post : Int32 → Prop} {x y : Int32} (a b : Nat) (hx : x = nI a) (hy : y = nI b) (ha : a < 2 ^ 31) (hb : b < 2 ^ 31) (H : post (nI (min a b))) : wpX_least post () x y := by
  subst hx hy
  refine pk_le b a (fun z => ?_) (fun z => ?_)
  · rw [Nat.min_eq_right z] at H
    exact H
  · rw [Nat.min_eq_left (Nat.le_of_lt z)] at H
    exact H
end
section
theorem mz_isPage {post : Int32 → Prop} {p : Nat} (hp : p < 64) (H : post 1) : wpX_isPage post () (nI p) :=
  pk_lt p 0 (fun z => absurd z (by omega)) (fun _ => pk_le 64 p (fun z => absurd z (by omega)) (fun _ => H))
theorem mz_find {post : Int32 → Prop} {c p : Nat} {F T K : Nat → Nat} {mk : Int32} {a1 a2 a3 a4 a5 a6 : Nat → Int32}
    (hO : mz_Ok c F T K) (hI : mz_In c F T K a1 a2 a3) (hc : c ≤ 20) (hp : p < 64)
    (hi : ∀ i, i < c → F i ≤ p → p < T i → post (nI i)) (hn : (∀ i, i < c → ¬ (F i ≤ p ∧ p < T i)) → post (-1)) :
    wpX_find post (nI c, mk, a1, a2, a3, a4, a5, a6) (nI p) := by
  have Z : ∀ (lo h : Nat), h ≤ lo → (∀ i, i < lo → i < c → T i ≤ p) → (∀ i, h ≤ i → i < c → p < F i) → post (-1) := by
    intro lo h hl A B
    refine hn (fun i hi q => ?_)
    rcases Nat.lt_or_ge i lo with z | z
    · have h1 := A i z hi
      omega
    · have h1 := B i (by omega) hi
      omega
  have main : ∃ fu, wX_find_12 post (nI p) (nI c) mk a1 a2 a3 a4 a5 a6 fu 0 (nI c - 1) 0 := by
    refine pk_loop (σ := Int32 × Int32) (fun n r s => wX_find_12 post (nI p) (nI c) mk a1 a2 a3 a4 a5 a6 n s.1 s.2 (nI r))
      (fun r s => ∃ lo h : Nat, s.1 = nI lo ∧ s.2 = nI h - 1 ∧ lo ≤ c ∧ h ≤ c ∧ h - lo < 2 ^ (6 - r) ∧ (∀ i, i < lo → i < c → T i ≤ p) ∧ (∀ i, h ≤ i → i < c → p < F i)) 6 0 (0, nI c - 1) (by omega) ?_ ?_ ?_
    · refine ⟨0, c, rfl, rfl, by omega, by omega, ?_, fun i h1 => absurd h1 (by omega), fun i h1 h2 => absurd h1 (by omega)⟩
      show c - 0 < 64
      omega
    · rintro n ⟨s1, s2⟩ ⟨lo, h, e1, e2, hl, hh, hb, A, B⟩
      have hb' : h - lo < 1 := hb
      exact pk_le 6 6 (fun _ => Z lo h (by omega) A B) (fun z => absurd z (by omega))
    · rintro n r ⟨s1, s2⟩ hr ⟨lo, h, e1, e2, hl, hh, hb, A, B⟩ hw
      have e1' : s1 = nI lo := e1
      have e2' : s2 = nI h - 1 := e2
      subst e1' e2'
      have hb1 : 6 - r = (6 - (r + 1)) + 1 := by omega
      rw [hb1, Nat.pow_succ] at hb
      refine pk_le 6 r (fun z => absurd z (by omega)) (fun _ => ?_)
      by_cases hlo : h ≤ lo
      · exact br_t ((mz_subLt (a := h) (b := 1) (l := lo) (by omega) (by omega) (by omega)).mpr (by omega)) (Z lo h hlo A B)
      · obtain ⟨h', rfl⟩ : ∃ h', h = h' + 1 := ⟨h - 1, by omega⟩
        refine br_f (by rw [nI_pred]; exact nI_nlt (by omega) (by omega)) ?_
        obtain ⟨m, hm⟩ : ∃ m, m = (lo + h') / 2 := ⟨_, rfl⟩
        refine nm_r (e' := nI m) (by rw [nI_pred, nI_add, hm]; exact pk_shrN (by omega) _ 1 (by decide)) ?_
        have hmc : m < c := by omega
        have hO1 := hO.1 m hmc
        have R1 := mz_rd (hI m hmc).1 (by omega)
        have R2 := mz_rd (hI m hmc).2.1 (by omega)
        refine ⟨vp_in_nI (by omega) (by omega), pk_lt p (T m) (fun z => ⟨vp_in_nI (by omega) (by omega), pk_le (F m) p (fun z2 => hi m hmc z2 z) (fun z2 => nm_e (nm_r (nI_1 r) (hw (nI lo, nI m - 1) ⟨lo, m, rfl, rfl, hl, by omega, by omega, A, fun i h1 h2 => ?_⟩))) (hx := R1)⟩) (fun z => nm_r (nI_1 m) (nm_r (nI_1 r) (hw (nI (m + 1), nI (h' + 1) - 1) ⟨m + 1, h' + 1, rfl, rfl, by omega, hh, by omega, fun i h1 h2 => ?_, B⟩))) (hy := R2)⟩
        · rcases Nat.lt_or_ge m i with q | q
          · have h3 := mz_lt hO q h2
            omega
          · rw [show i = m by omega]
            exact z2
        · rcases Nat.lt_or_ge i m with q | q
          · have h3 := mz_lt hO q hmc
            omega
          · rw [show i = m by omega]
            exact z
  unfold wpX_find
  exact nm_e main
theorem mz_rt_at {c p i : Nat} {F T K : Nat → Nat} (hO : mz_Ok c F T K) (h1 : i < c) (h2 : F i ≤ p) (h3 : p < T i) : mz_rt F T K c p = nI (K i % 8) :=
  congrArg (mz_sel (-3) (fun i => nI (K i % 8))) (mz_ix_at c h1 ⟨h2, h3⟩ (fun j hj q => mz_uni hO h1 hj ⟨h2, h3⟩ q))
theorem mz_tg_at {c p i : Nat} {F T K : Nat → Nat} (hO : mz_Ok c F T K) (h1 : i < c) (h2 : F i ≤ p) (h3 : p < T i) : mz_tg F T K c p = nI (K i / 8) :=
  congrArg (mz_sel (-3) (fun i => nI (K i / 8))) (mz_ix_at c h1 ⟨h2, h3⟩ (fun j hj q => mz_uni hO h1 hj ⟨h2, h3⟩ q))
theorem mz_rt_no {c p : Nat} {F T K : Nat → Nat} (h : ∀ i, i < c → ¬ (F i ≤ p ∧ p < T i)) : mz_rt F T K c p = -3 :=
  congrArg (mz_sel (-3) (fun i => nI (K i % 8))) (mz_ix_no c h)
theorem mz_tg_no {c p : Nat} {F T K : Nat → Nat} (h : ∀ i, i < c → ¬ (F i ≤ p ∧ p < T i)) : mz_tg F T K c p = -3 :=
  congrArg (mz_sel (-3) (fun i => nI (K i / 8))) (mz_ix_no c h)
theorem mz_rights {post : Int32 → Prop} {c p : Nat} {F T K : Nat → Nat} {mk : Int32} {a1 a2 a3 a4 a5 a6 : Nat → Int32}
    (hO : mz_Ok c F T K) (hI : mz_In c F T K a1 a2 a3) (hc : c ≤ 20) (hp : p < 64) (H : post (mz_rt F T K c p)) :
    wpX_rights post (nI c, mk, a1, a2, a3, a4, a5, a6) (nI p) := by
  unfold wpX_rights
  refine mz_isPage hp (br_f (by decide) (mz_find hO hI hc hp (fun i h1 h2 h3 => ?_) (fun h => ?_)))
  · have h4 := hO.1 i h1
    refine br_t (nI_pos' (by omega)) ⟨vp_in_nI (by omega) (by omega), ?_⟩
    rw [mz_rd (hI i h1).2.2 (by omega), mz_and7 (by omega), ← mz_rt_at hO h1 h2 h3]
    exact H
  · rw [mz_rt_no h] at H
    exact br_f (by decide) H
theorem mz_tag {post : Int32 → Prop} {c p : Nat} {F T K : Nat → Nat} {mk : Int32} {a1 a2 a3 a4 a5 a6 : Nat → Int32}
    (hO : mz_Ok c F T K) (hI : mz_In c F T K a1 a2 a3) (hc : c ≤ 20) (hp : p < 64) (H : post (mz_tg F T K c p)) :
    wpX_tag post (nI c, mk, a1, a2, a3, a4, a5, a6) (nI p) := by
  unfold wpX_tag
  refine mz_isPage hp (br_f (by decide) (mz_find hO hI hc hp (fun i h1 h2 h3 => ?_) (fun h => ?_)))
  · have h4 := hO.1 i h1
    refine br_t (nI_pos' (by omega)) ⟨vp_in_nI (by omega) (by omega), ?_⟩
    rw [mz_rd (hI i h1).2.2 (by omega), mz_shr3 (by omega), ← mz_tg_at hO h1 h2 h3]
    exact H
  · rw [mz_tg_no h] at H
    exact br_f (by decide) H
theorem mz_areaOf {post : Int32 → Prop} {c p : Nat} {F T K : Nat → Nat} {mk : Int32} {a1 a2 a3 a4 a5 a6 : Nat → Int32}
    (hO : mz_Ok c F T K) (hI : mz_In c F T K a1 a2 a3) (hc : c ≤ 20) (hp : p < 64)
    (hi : ∀ i, i < c → F i ≤ p → p < T i → post (nI i)) (hn : (∀ i, i < c → ¬ (F i ≤ p ∧ p < T i)) → post (-3)) :
    wpX_areaOf post (nI c, mk, a1, a2, a3, a4, a5, a6) (nI p) := by
  unfold wpX_areaOf
  refine mz_isPage hp (br_f (by decide) (mz_find hO hI hc hp (fun i h1 h2 h3 => ?_) (fun h => ?_)))
  · exact br_t (nI_pos' (by omega)) (hi i h1 h2 h3)
  · exact br_f (by decide) (hn h)
theorem mz_view {post : Int64 → Prop} {c : Nat} {F T K : Nat → Nat} {mk : Int32} {a1 a2 a3 a4 a5 a6 : Nat → Int32}
    (hO : mz_Ok c F T K) (hI : mz_In c F T K a1 a2 a3) (hc : c ≤ 20) (H : post (mz_vw F T K c 64)) :
    wpL_view post (nI c, mk, a1, a2, a3, a4, a5, a6) := by
  unfold wpL_view
  exact pk_loop (σ := Unit) (fun n i _ => wL_view_4 post (nI c) mk a1 a2 a3 a4 a5 a6 n (mz_vw F T K c i) (nI i)) (fun _ _ => True) 64 0 () (by omega) trivial
    (fun n _ _ => pk_le 64 64 (fun _ => H) (fun z => absurd z (by omega)))
    (fun n i _ hi _ hw => pk_le 64 i (fun z => absurd z (by omega)) (fun _ => mz_rights hO hI hc hi (mz_tag hO hI hc hi (nm_r (e' := mz_vw F T K c (i + 1)) rfl (nm_r (nI_1 i) (hw () trivial))))))
theorem mz_longest {post : Int32 → Prop} {c : Nat} {F T K : Nat → Nat} {mk : Int32} {a1 a2 a3 a4 a5 a6 : Nat → Int32}
    (hO : mz_Ok c F T K) (hI : mz_In c F T K a1 a2 a3) (hc : c ≤ 20) (H : post (nI (mz_lf F T c))) :
    wpX_longestFree post (nI c, mk, a1, a2, a3, a4, a5, a6) := by
  unfold wpX_longestFree
  refine pk_loop (σ := Unit) (fun n i _ => wX_longestFree_6 post (nI c) mk a1 a2 a3 a4 a5 a6 n (nI (mz_pg T i)) (nI (mz_ms F T i)) (nI i)) (fun _ _ => True) c 0 () (by omega) trivial
    (fun n _ _ => ?_) (fun n i _ hi _ hw => ?_)
  · have h1 := mz_pg64 hO (Nat.le_refl c)
    have h2 := mz_ms64 hO c (Nat.le_refl c)
    exact pk_le c c (fun _ => mz_greatest (mz_ms F T c) (64 - mz_pg T c) rfl (pk_sub (a := 64) h1) (by omega) (by omega) H) (fun z => absurd z (by omega))
  · have h1 := mz_pgF hO hi
    have h2 := mz_ms64 hO i (by omega)
    have h3 := hO.1 i hi
    exact pk_le c i (fun z => absurd z (by omega)) (fun _ => ⟨vp_in_nI (by omega) (by omega), mz_greatest (mz_ms F T i) (F i - mz_pg T i) rfl (by rw [mz_rd (hI i hi).1 (by omega)]; exact pk_sub h1) (by omega) (by omega) ⟨vp_in_nI (by omega) (by omega), nm_r (mz_rd (hI i hi).2.1 (by omega)) (nm_r (nI_1 i) (hw () trivial))⟩⟩)
theorem mz_mappedIn {post : Int32 → Prop} {c lo hi : Nat} {F T K : Nat → Nat} {mk : Int32} {a1 a2 a3 a4 a5 a6 : Nat → Int32}
    (hO : mz_Ok c F T K) (hI : mz_In c F T K a1 a2 a3) (hc : c ≤ 20) (hlo : lo ≤ 1000) (hhi : hi ≤ 1000) {x y : Int32} (hx : x = nI lo) (hy : y = nI hi) (H : post (nI (mz_mi F T lo hi c))) :
    wpX_mappedIn post (nI c, mk, a1, a2, a3, a4, a5, a6) x y := by
  subst hx hy
  unfold wpX_mappedIn
  refine pk_loop (σ := Unit) (fun n i _ => wX_mappedIn_5 post (nI lo) (nI hi) (nI c) mk a1 a2 a3 a4 a5 a6 n (nI (mz_mi F T lo hi i)) (nI i)) (fun _ _ => True) c 0 () (by omega) trivial
    (fun n _ _ => ?_) (fun n i _ hi' _ hw => ?_)
  · exact pk_le c c (fun _ => H) (fun z => absurd z (by omega))
  · have h3 := hO.1 i hi'
    refine pk_le c i (fun z => absurd z (by omega)) (fun _ => ⟨vp_in_nI (by omega) (by omega), mz_greatest (F i) lo (mz_rd (hI i hi').1 (by omega)) rfl (by omega) (by omega) ⟨vp_in_nI (by omega) (by omega), mz_least (T i) hi (mz_rd (hI i hi').2.1 (by omega)) rfl (by omega) (by omega) ?_⟩⟩)
    exact pk_le (min (T i) hi) (max (F i) lo)
      (fun z => nm_r (e' := nI (mz_mi F T lo hi (i + 1))) (by rw [mz_miS, Nat.sub_eq_zero_of_le z]; exact nI_add _ 0) (nm_r (nI_1 i) (hw () trivial)))
      (fun z => nm_r (e' := nI (mz_mi F T lo hi (i + 1))) (by rw [mz_miS, pk_sub (Nat.le_of_lt z), nI_add]) (nm_r (nI_1 i) (hw () trivial)))
theorem mz_room {post : Int32 → Prop} {c s l : Nat} {F T K : Nat → Nat} {mk : Int32} {a1 a2 a3 a4 a5 a6 : Nat → Int32}
    (hO : mz_Ok c F T K) (hI : mz_In c F T K a1 a2 a3) (hc : c ≤ 20) (hs : s ≤ 64) (hl : 1 ≤ l) (hl2 : l ≤ 64)
    (hq : ∀ q, q + l ≤ 64 → l ≤ mz_lf F T c → post (nI q)) (hn : (s = 0 → mz_lf F T c < l) → post (-1)) :
    wpX_room post (nI c, mk, a1, a2, a3, a4, a5, a6) (nI s) (nI l) := by
  unfold wpX_room
  refine pk_loop (σ := Nat) (fun n i q => wX_room_5 post (nI l) (nI c) mk a1 a2 a3 a4 a5 a6 n (nI q) (nI i)) (fun i q => mz_pg T i ≤ q ∧ q ≤ 64 ∧ (s = 0 → q = mz_pg T i ∧ mz_ms F T i < l)) c 0 s (by omega)
    ⟨Nat.zero_le s, hs, fun e => ⟨e, hl⟩⟩ (fun n q hq' => ?_) (fun n i q hi hq' hw => ?_)
  · obtain ⟨g1, g2, g3⟩ := hq'
    have h1 := mz_pg64 hO (Nat.le_refl c)
    have h2 : mz_lf F T c = max (mz_ms F T c) (64 - mz_pg T c) := rfl
    refine pk_le c c (fun _ => ek_if (mz_subLt (a := 64) (b := q) (l := l) (by omega) (by omega) (by omega)) (fun z => hn (fun e => ?_)) (fun z => hq q (by omega) (by omega))) (fun z => absurd z (by omega))
    have g4 := g3 e
    omega
  · obtain ⟨g1, g2, g3⟩ := hq'
    have h1 := mz_pgF hO hi
    have h3 := hO.1 i hi
    have R1 := mz_rd (hI i hi).1 (show i < 2 ^ 31 by omega)
    have R2 := mz_rd (hI i hi).2.1 (show i < 2 ^ 31 by omega)
    have P1 := mz_pgS T i
    have P2 := mz_msS F T i
    refine pk_le c i (fun z => absurd z (by omega)) (fun _ => ⟨vp_in_nI (by omega) (by omega), pk_le (T i) q (fun z => nm_r (nI_1 i) (hw q ⟨by omega, g2, fun e => ?_⟩)) (fun z => ⟨vp_in_nI (by omega) (by omega), ?_⟩) (hx := R2)⟩)
    · have g4 := g3 e
      omega
    · have Q : a1 (nI i).toNatClampNeg - nI q < nI l ↔ F i < q + l := by
        rw [R1]
        exact mz_subLt (by omega) (by omega) (by omega)
      refine ek_if Q (fun z2 => ⟨vp_in_nI (by omega) (by omega), nm_r R2 (nm_r (nI_1 i) (hw (T i) ⟨by omega, by omega, fun e => ?_⟩))⟩) (fun z2 => hq q (by omega) (mz_lf_gap hi (by omega)))
      have g4 := g3 e
      omega
theorem mz_isArea {post : Int32 → Prop} {c i : Nat} {mk : Int32} {a1 a2 a3 a4 a5 a6 : Nat → Int32} (hc : c ≤ 20) (hi : i < c) (H : post 1) :
    wpX_isArea post (nI c, mk, a1, a2, a3, a4, a5, a6) (nI i) := by
  unfold wpX_isArea
  exact pk_lt i 0 (fun z => absurd z (by omega)) (fun _ => pk_le c i (fun z => absurd z (by omega)) (fun _ => H))
theorem mz_noArea {post : Int32 → Prop} {c : Nat} {mk : Int32} {a1 a2 a3 a4 a5 a6 : Nat → Int32} (hc : c ≤ 20) (H : post 0) :
    wpX_isArea post (nI c, mk, a1, a2, a3, a4, a5, a6) (nI c) := by
  unfold wpX_isArea
  exact pk_lt c 0 (fun z => absurd z (by omega)) (fun _ => pk_le c c (fun _ => H) (fun z => absurd z (by omega)))
theorem mz_areaFirst {post : Int32 → Prop} {c i : Nat} {F T K : Nat → Nat} {mk : Int32} {a1 a2 a3 a4 a5 a6 : Nat → Int32}
    (hI : mz_In c F T K a1 a2 a3) (hc : c ≤ 20) (hi : i < c) (H : post (nI (F i))) :
    wpX_areaFirst post (nI c, mk, a1, a2, a3, a4, a5, a6) (nI i) := by
  unfold wpX_areaFirst
  refine mz_isArea hc hi (br_f (by decide) ⟨vp_in_nI (by omega) (by omega), ?_⟩)
  rw [mz_rd (hI i hi).1 (by omega)]
  exact H
theorem mz_areaLength {post : Int32 → Prop} {c i : Nat} {F T K : Nat → Nat} {mk : Int32} {a1 a2 a3 a4 a5 a6 : Nat → Int32}
    (hO : mz_Ok c F T K) (hI : mz_In c F T K a1 a2 a3) (hc : c ≤ 20) (hi : i < c) (H : post (nI (T i - F i))) :
    wpX_areaLength post (nI c, mk, a1, a2, a3, a4, a5, a6) (nI i) := by
  unfold wpX_areaLength
  have h3 := hO.1 i hi
  refine mz_isArea hc hi (br_f (by decide) ⟨vp_in_nI (by omega) (by omega), vp_in_nI (by omega) (by omega), ?_⟩)
  rw [mz_rd (hI i hi).1 (by omega), mz_rd (hI i hi).2.1 (by omega), pk_sub (by omega)]
  exact H
theorem mz_noFirst {post : Int32 → Prop} {c : Nat} {mk : Int32} {a1 a2 a3 a4 a5 a6 : Nat → Int32} (hc : c ≤ 20) (H : post (-3)) :
    wpX_areaFirst post (nI c, mk, a1, a2, a3, a4, a5, a6) (nI c) := by
  unfold wpX_areaFirst
  exact mz_noArea hc (br_t rfl H)
end
section
def mz_up (f : Nat → Nat) (k v : Nat) : Nat → Nat := fun j => if j = k then v else f j
theorem mz_ups {f : Nat → Nat} {k v : Nat} : mz_up f k v k = v := if_pos rfl
theorem mz_upn {f : Nat → Nat} {k v j : Nat} (h : j ≠ k) : mz_up f k v j = f j := if_neg h
/-- a piece is added -/
theorem mz_app {m f e k : Nat} {F T K : Nat → Nat} (hO : mz_Ok m F T K) (hfe : f < e) (he : e ≤ 64) (hk : k ≤ 127) (hpg : mz_pg T m ≤ f) (hne : ∀ i, i + 1 = m → ¬ (T i = f ∧ K i = k)) :
    mz_Ok (m + 1) (mz_up F m f) (mz_up T m e) (mz_up K m k) := by
  refine ⟨fun i hi => ?_, fun i hi => ?_⟩
  · by_cases q : i = m
    · rw [q, mz_ups, mz_ups, mz_ups]
      omega
    · rw [mz_upn q, mz_upn q, mz_upn q]
      exact hO.1 i (by omega)
  · by_cases q : i + 1 = m
    · have h1 := hne i q
      have q' : i ≠ m := by omega
      have h2 : T i ≤ f := by
        rw [← q] at hpg
        exact hpg
      rw [mz_upn q', mz_upn q', q, mz_ups, mz_ups]
      exact ⟨h2, h1⟩
    · rw [mz_upn (show i ≠ m by omega), mz_upn (show i ≠ m by omega), mz_upn q, mz_upn q]
      exact hO.2 i (by omega)
/-- the last piece goes on -/
theorem mz_join {m e : Nat} {F T K : Nat → Nat} (hO : mz_Ok (m + 1) F T K) (hfe : T m < e) (he : e ≤ 64) : mz_Ok (m + 1) F (mz_up T m e) K := by
  refine ⟨fun i hi => ?_, fun i hi => ?_⟩
  · have h1 := hO.1 i hi
    by_cases q : i = m
    · subst q
      rw [mz_ups]
      omega
    · rw [mz_upn q]
      exact h1
  · rw [mz_upn (show i ≠ m by omega)]
    exact hO.2 i hi
theorem mz_inApp {m f e k : Nat} {F T K : Nat → Nat} {a b d : Nat → Int32} (hI : mz_In m F T K a b d) :
    mz_In (m + 1) (mz_up F m f) (mz_up T m e) (mz_up K m k) (upd a m (nI f)) (upd b m (nI e)) (upd d m (nI k)) := by
  intro i hi
  by_cases q : i = m
  · rw [q, mz_ups, mz_ups, mz_ups, pk_us, pk_us, pk_us]
    exact ⟨rfl, rfl, rfl⟩
  · rw [mz_upn q, mz_upn q, mz_upn q, pk_un q, pk_un q, pk_un q]
    exact hI i (by omega)
theorem mz_inJoin {m e : Nat} {F T K : Nat → Nat} {a b d : Nat → Int32} (hI : mz_In (m + 1) F T K a b d) :
    mz_In (m + 1) F (mz_up T m e) K a (upd b m (nI e)) d := by
  intro i hi
  have h1 := hI i hi
  by_cases q : i = m
  · subst q
    rw [mz_ups, pk_us]
    exact ⟨h1.1, rfl, h1.2.2⟩
  · rw [mz_upn q, pk_un q]
    exact h1
theorem mz_inNext {i : Nat} {F T K : Nat → Nat} {a b d : Nat → Int32} (hI : mz_In i F T K a b d) :
    mz_In (i + 1) F T K (upd a i (nI (F i))) (upd b i (nI (T i))) (upd d i (nI (K i))) := by
  intro j hj
  by_cases q : j = i
  · rw [q, pk_us, pk_us, pk_us]
    exact ⟨rfl, rfl, rfl⟩
  · rw [pk_un q, pk_un q, pk_un q]
    exact hI j (by omega)
theorem mz_emit {post : St1 → Prop} {m f e k : Nat} {cn : Int32} {F T K : Nat → Nat} {a1 a2 a3 a4 a5 a6 : Nat → Int32}
    (hO : mz_Ok m F T K) (hI : mz_In m F T K a4 a5 a6) (hm : m < 48) (hf : f ≤ 64) (he : e ≤ 64) (hk : k ≤ 127) (hpg : f < e → mz_pg T m ≤ f)
    {x y w : Int32} (hx : x = nI f) (hy : y = nI e) (hw : w = nI k)
    (H : ∀ m' F' T' K' b4 b5 b6, mz_Ok m' F' T' K' → mz_In m' F' T' K' b4 b5 b6 → (f < e → mz_pg T' m' = e ∧ m' ≤ m + 1) → (e ≤ f → mz_pg T' m' = mz_pg T m ∧ m' = m) → post (cn, nI m', a1, a2, a3, b4, b5, b6)) :
    wpX_emit post (cn, nI m, a1, a2, a3, a4, a5, a6) x y w := by
  subst hx hy hw
  unfold wpX_emit
  refine pk_lt f e (fun z => ?_) (fun z => H m F T K a4 a5 a6 hO hI (fun q => absurd q (by omega)) (fun _ => ⟨rfl, rfl⟩))
  have app : (∀ i, i + 1 = m → ¬ (T i = f ∧ K i = k)) → wX_emit_47 post (nI f) (nI e) (nI k) cn (nI m) a1 a2 a3 a4 a5 a6 := by
    intro hne
    have cl : (nI m).toNatClampNeg = m := nI_clamp (by omega)
    refine br_t (c := (0 : Int32) = 0) rfl ⟨vp_in_nI hm (by omega), nm_r (e' := upd a4 m (nI f)) (by rw [cl, mz_8 f (by omega)]) ⟨vp_in_nI hm (by omega), nm_r (e' := upd a5 m (nI e)) (by rw [cl, mz_8 e (by omega)]) ⟨vp_in_nI hm (by omega), nm_r (e' := upd a6 m (nI k)) (by rw [cl, mz_8 k (by omega)]) (nm_r (nI_1 m) ?_)⟩⟩⟩
    exact H (m + 1) _ _ _ _ _ _ (mz_app hO z he hk (hpg z) hne) (mz_inApp hI) (fun _ => ⟨mz_ups, Nat.le_refl _⟩) (fun q => absurd q (by omega))
  refine pk_le m 0 (fun z0 => app (fun i hi => absurd hi (by omega))) (fun z0 => ?_)
  obtain ⟨j, rfl⟩ : ∃ j, m = j + 1 := ⟨m - 1, by omega⟩
  have h1 := hO.1 j (by omega)
  have R5 : a5 (nI (j + 1) - 1).toNatClampNeg = nI (T j) := by
    rw [nI_pred]
    exact mz_rd (hI j (by omega)).2.1 (by omega)
  have R6 : a6 (nI (j + 1) - 1).toNatClampNeg = nI (K j) := by
    rw [nI_pred]
    exact mz_rd (hI j (by omega)).2.2 (by omega)
  have V : vp_in (nI (j + 1) - 1) 48 := by
    rw [nI_pred]
    exact vp_in_nI (by omega) (by omega)
  refine ⟨V, pk_eq (T j) f (fun q1 => ⟨V, pk_eq (K j) k (fun q2 => ?_) (fun q2 => app (fun i hi q => ?_)) (hx := R6)⟩) (fun q1 => app (fun i hi q => ?_)) (hx := R5)⟩
  · unfold wX_emit_48
    refine br_f (by decide) ⟨V, nm_r (e' := upd a5 j (nI e)) (by rw [nI_pred, nI_clamp (by omega), mz_8 e (by omega)]) ?_⟩
    exact H (j + 1) F (mz_up T j e) K a4 (upd a5 j (nI e)) a6 (mz_join hO (by omega) he) (mz_inJoin hI) (fun _ => ⟨mz_ups, by omega⟩) (fun q => absurd q (by omega))
  · rw [show i = j by omega] at q
    exact q2 q.2
  · rw [show i = j by omega] at q
    exact q1 q.1
theorem mz_commit {post : Int32 → St1 → Prop} {m : Nat} {cn : Int32} {F T K : Nat → Nat} {a1 a2 a3 a4 a5 a6 : Nat → Int32}
    (hO : mz_Ok m F T K) (hI : mz_In m F T K a4 a5 a6) (hm : m ≤ 48)
    (H0 : post 0 (cn, nI m, a1, a2, a3, a4, a5, a6)) (H1 : m ≤ 20 → ∀ b1 b2 b3, mz_In m F T K b1 b2 b3 → post 1 (nI m, nI m, b1, b2, b3, a4, a5, a6)) :
    wpX_commit post (cn, nI m, a1, a2, a3, a4, a5, a6) := by
  unfold wpX_commit
  refine pk_le m 20 (fun z => ?_) (fun z => H0)
  refine pk_loop (σ := (Nat → Int32) × (Nat → Int32) × (Nat → Int32)) (fun n i s => wX_commit_21 post (nI m) (nI m) n (nI i) s.1 s.2.1 s.2.2 a4 a5 a6) (fun i s => mz_In i F T K s.1 s.2.1 s.2.2) m 0 (a1, a2, a3) (by omega) (fun i hi => absurd hi (by omega))
    (fun n s h => pk_le m m (fun _ => H1 z _ _ _ h) (fun q => absurd q (by omega))) (fun n i s hi h hw => ?_)
  have h1 := hO.1 i hi
  have cl : (nI i).toNatClampNeg = i := nI_clamp (by omega)
  have V8 : vp_in (nI i) 48 := vp_in_nI (by omega) (by omega)
  have V2 : vp_in (nI i) 20 := vp_in_nI (by omega) (by omega)
  refine pk_le m i (fun q => absurd q (by omega)) (fun _ => ⟨V8, V2, nm_r (e' := upd s.1 i (nI (F i))) (by rw [cl, (hI i hi).1, vp_nar_byte, mz_8 _ (by omega)]) ⟨V8, V2, nm_r (e' := upd s.2.1 i (nI (T i))) (by rw [cl, (hI i hi).2.1, vp_nar_byte, mz_8 _ (by omega)]) ⟨V8, V2, nm_r (e' := upd s.2.2 i (nI (K i))) (by rw [cl, (hI i hi).2.2, vp_nar_byte, mz_8 _ (by omega)]) (nm_r (nI_1 i) ?_)⟩⟩⟩)
  exact hw (upd s.1 i (nI (F i)), upd s.2.1 i (nI (T i)), upd s.2.2 i (nI (K i))) (mz_inNext h)
theorem mz_rw139 {post : Int32 → St1 → Prop} {c m : Nat} {F T K : Nat → Nat} {a1 a2 a3 a4 a5 a6 : Nat → Int32}
    (hO : mz_Ok m F T K) (hI : mz_In m F T K a4 a5 a6) (hm : m ≤ 48)
    (H0 : ∀ mk b4 b5 b6, post 0 (nI c, mk, a1, a2, a3, b4, b5, b6))
    (H1 : ∀ c' F' T' K' mk b1 b2 b3 b4 b5 b6, c' ≤ 20 → mz_Ok c' F' T' K' → mz_In c' F' T' K' b1 b2 b3 → post 1 (nI c', mk, b1, b2, b3, b4, b5, b6)) :
    wX_rewrite_139 post (nI c) (nI m) a1 a2 a3 a4 a5 a6 := by
  unfold wX_rewrite_139
  exact mz_commit hO hI hm ⟨rfl, H0 _ _ _ _⟩ (fun z b1 b2 b3 hb => ⟨rfl, H1 m F T K _ _ _ _ _ _ _ z hO hb⟩)
theorem mz_rw88 {post : Int32 → St1 → Prop} {J : Int32 → Int32 → Int32 → Int32 → (Nat → Int32) → (Nat → Int32) → (Nat → Int32) → (Nat → Int32) → (Nat → Int32) → (Nat → Int32) → Prop}
    {c i e m : Nat} {x1 x3 x4 : Int32} {F T K F' T' K' : Nat → Nat} {a1 a2 a3 a4 a5 a6 : Nat → Int32}
    (hO : mz_Ok c F T K) (hI : mz_In c F T K a1 a2 a3) (hc : c ≤ 20) (hi : i < c) (he : e ≤ 64)
    (hO' : mz_Ok m F' T' K') (hI' : mz_In m F' T' K' a4 a5 a6) (hm : m < 48) (hpg : max (F i) e < T i → mz_pg T' m ≤ max (F i) e)
    (H : ∀ m' F'' T'' K'' b4 b5 b6, mz_Ok m' F'' T'' K'' → mz_In m' F'' T'' K'' b4 b5 b6 → (max (F i) e < T i → mz_pg T'' m' = T i ∧ m' ≤ m + 1) → (T i ≤ max (F i) e → mz_pg T'' m' = mz_pg T' m ∧ m' = m) → J x4 (nI (i + 1)) (nI c) (nI m') a1 a2 a3 b4 b5 b6) :
    wX_rewrite_88 post J x1 (nI e) x3 x4 (nI i) (nI c) (nI m) a1 a2 a3 a4 a5 a6 := by
  unfold wX_rewrite_88
  have h1 := hO.1 i hi
  have V2 : vp_in (nI i) 20 := vp_in_nI (by omega) (by omega)
  have hi2 : i < 2 ^ 31 := by omega
  exact ⟨V2, mz_greatest (F i) e (mz_rd (hI i hi).1 hi2) rfl (by omega) (by omega) ⟨V2, V2, mz_emit (f := max (F i) e) (e := T i) (k := K i) hO' hI' hm (by omega) (by omega) (by omega) hpg rfl (mz_rd (hI i hi).2.1 hi2) (mz_rd (hI i hi).2.2 hi2) (fun m' F'' T'' K'' b4 b5 b6 o n p q => nm_r (nI_1 i) (H m' F'' T'' K'' b4 b5 b6 o n p q))⟩⟩
/-- a kind -/
def mz_kd (w : Int32) : Prop := ∃ k, k ≤ 127 ∧ w = nI k
theorem mz_rw20 {post : Int32 → St1 → Prop} {c f e z0 : Nat} {w : Int32} {F T K : Nat → Nat} {a1 a2 a3 a4 a5 a6 : Nat → Int32}
    (hO : mz_Ok c F T K) (hI : mz_In c F T K a1 a2 a3) (hc : c ≤ 20) (hfe : f < e) (he : e ≤ 64) (hz : z0 = 1 ∨ (z0 = 0 ∧ mz_kd w))
    (H0 : ∀ mk b4 b5 b6, post 0 (nI c, mk, a1, a2, a3, b4, b5, b6))
    (H1 : ∀ c' F' T' K' mk b1 b2 b3 b4 b5 b6, c' ≤ 20 → mz_Ok c' F' T' K' → mz_In c' F' T' K' b1 b2 b3 → post 1 (nI c', mk, b1, b2, b3, b4, b5, b6)) :
    ∃ n, wX_rewrite_20 post (nI f) (nI e) w n (nI z0) 0 (nI c) 0 a1 a2 a3 a4 a5 a6 := by
  refine pk_loop (σ := Nat × Nat × (Nat → Int32) × (Nat → Int32) × (Nat → Int32))
    (fun n i s => wX_rewrite_20 post (nI f) (nI e) w n (nI s.1) (nI i) (nI c) (nI s.2.1) a1 a2 a3 s.2.2.1 s.2.2.2.1 s.2.2.2.2)
    (fun i s => ∃ F' T' K', mz_Ok s.2.1 F' T' K' ∧ mz_In s.2.1 F' T' K' s.2.2.1 s.2.2.2.1 s.2.2.2.2 ∧
      ((s.1 = 0 ∧ mz_kd w ∧ s.2.1 ≤ 2 * i ∧ mz_pg T' s.2.1 ≤ f ∧ mz_pg T' s.2.1 ≤ mz_pg T i) ∨ (s.1 = 1 ∧ s.2.1 ≤ 2 * i + 1 ∧ (mz_pg T' s.2.1 ≤ mz_pg T i ∨ (mz_pg T' s.2.1 ≤ e ∧ f < mz_pg T i)))))
    c 0 (z0, 0, a4, a5, a6) (by omega) ?_ ?_ ?_
  · refine ⟨F, T, K, ⟨fun i hi => absurd hi (Nat.not_lt_zero _), fun i hi => absurd hi (Nat.not_lt_zero _)⟩, fun i hi => absurd hi (Nat.not_lt_zero _), ?_⟩
    rcases hz with z | ⟨z, hk⟩
    · exact Or.inr ⟨z, Nat.zero_le _, Or.inl (Nat.le_refl _)⟩
    · exact Or.inl ⟨z, hk, Nat.zero_le _, Nat.zero_le _, Nat.le_refl _⟩
  · rintro n ⟨z, m, b4, b5, b6⟩ ⟨F', T', K', O', N', J⟩
    dsimp only at O' N' J ⊢
    refine pk_le c c (fun _ => ?_) (fun q => absurd q (by omega))
    rcases J with ⟨rfl, ⟨k, hk, ek⟩, jm, j1, j2⟩ | ⟨rfl, jm, j1⟩
    · refine br_t (c := nI 0 = 0) rfl (mz_emit (f := f) (e := e) (k := k) O' N' (by omega) (by omega) he hk (fun _ => j1) rfl rfl ek (fun m1 F1 T1 K1 d4 d5 d6 o1 n1 p1 q1 => ?_))
      have p2 := p1 hfe
      exact mz_rw139 o1 n1 (by omega) H0 H1
    · exact br_f (nI_ne0 (by omega) (by omega)) (mz_rw139 O' N' (by omega) H0 H1)
  · rintro n i ⟨z, m, b4, b5, b6⟩ hi ⟨F', T', K', O', N', J⟩ hw
    dsimp only at O' N' J ⊢
    have h1 := hO.1 i hi
    have h2 := mz_pgF hO hi
    have P := mz_pgS T i
    have hi2 : i < 2 ^ 31 := by omega
    have V2 : vp_in (nI i) 20 := vp_in_nI (by omega) (by omega)
    have R1 := mz_rd (hI i hi).1 hi2
    have R2 := mz_rd (hI i hi).2.1 hi2
    have R3 := mz_rd (hI i hi).2.2 hi2
    refine pk_le c i (fun q => absurd q (by omega)) (fun _ => ⟨V2, mz_least (T i) f R2 rfl (by omega) (by omega) ⟨V2, V2, mz_emit (f := F i) (e := min (T i) f) (k := K i) O' N' (by omega) (by omega) (by omega) (by omega) (fun q => by omega) R1 rfl R3 (fun m1 F1 T1 K1 d4 d5 d6 o1 n1 p1 q1 => ?_)⟩⟩)
    rcases J with ⟨rfl, hk', jm, j1, j2⟩ | ⟨rfl, jm, j1⟩
    · obtain ⟨k, hk, ek⟩ := hk'
      refine br_t (c := nI 0 = 0) rfl ⟨V2, pk_le (T i) f (fun q => ?_) (fun q => ?_) (hx := R2)⟩
      · refine mz_rw88 hO hI hc hi he o1 n1 (by omega) (fun q' => by omega) (fun m2 F2 T2 K2 g4 g5 g6 o2 n2 p2 q2 => ?_)
        exact hw (0, m2, g4, g5, g6) ⟨F2, T2, K2, o2, n2, Or.inl ⟨rfl, ⟨k, hk, ek⟩, by dsimp only; omega, by dsimp only; omega, by dsimp only; omega⟩⟩
      · refine mz_emit (f := f) (e := e) (k := k) o1 n1 (by omega) (by omega) he hk (fun _ => by omega) rfl rfl ek (fun m2 F2 T2 K2 g4 g5 g6 o2 n2 p2 q2 => ?_)
        have p3 := p2 hfe
        refine mz_rw88 hO hI hc hi he o2 n2 (by omega) (fun q' => by omega) (fun m4 F4 T4 K4 l4 l5 l6 o4 n4 p4 q4 => ?_)
        exact hw (1, m4, l4, l5, l6) ⟨F4, T4, K4, o4, n4, Or.inr ⟨rfl, by dsimp only; omega, by dsimp only; omega⟩⟩
    · refine br_f (nI_ne0 (by omega) (by omega)) ?_
      refine mz_rw88 hO hI hc hi he o1 n1 (by omega) (fun q' => by omega) (fun m2 F2 T2 K2 g4 g5 g6 o2 n2 p2 q2 => ?_)
      exact hw (1, m2, g4, g5, g6) ⟨F2, T2, K2, o2, n2, Or.inr ⟨rfl, by dsimp only; omega, by dsimp only; omega⟩⟩
theorem mz_rewrite {post : Int32 → St1 → Prop} {c f e : Nat} {mk x y w : Int32} {F T K : Nat → Nat} {a1 a2 a3 a4 a5 a6 : Nat → Int32}
    (hO : mz_Ok c F T K) (hI : mz_In c F T K a1 a2 a3) (hc : c ≤ 20) (hfe : f < e) (he : e ≤ 64) (hx : x = nI f) (hy : y = nI e) (hw : w = -1 ∨ ∃ k, k ≤ 127 ∧ w = nI k)
    (H0 : ∀ mk b4 b5 b6, post 0 (nI c, mk, a1, a2, a3, b4, b5, b6))
    (H1 : ∀ c' F' T' K' mk b1 b2 b3 b4 b5 b6, c' ≤ 20 → mz_Ok c' F' T' K' → mz_In c' F' T' K' b1 b2 b3 → post 1 (nI c', mk, b1, b2, b3, b4, b5, b6)) :
    wpX_rewrite post (nI c, mk, a1, a2, a3, a4, a5, a6) x y w := by
  subst hx hy
  unfold wpX_rewrite
  refine br_c (fun q => mz_rw20 (z0 := 1) hO hI hc hfe he (Or.inl rfl) H0 H1) (fun q => mz_rw20 (z0 := 0) hO hI hc hfe he (Or.inr ⟨rfl, ?_⟩) H0 H1)
  rcases hw with h | h
  · exact absurd h q
  · exact h
end
section
theorem mz_pr168 {post : Int32 → St1 → Prop} {J : Int32 → Int32 → Int32 → Int32 → (Nat → Int32) → (Nat → Int32) → (Nat → Int32) → (Nat → Int32) → (Nat → Int32) → (Nat → Int32) → Prop}
    {c i e m k : Nat} {x1 x3 x5 : Int32} {F T K F' T' K' : Nat → Nat} {a1 a2 a3 a4 a5 a6 : Nat → Int32}
    (hO : mz_Ok c F T K) (hI : mz_In c F T K a1 a2 a3) (hc : c ≤ 20) (hi : i < c) (he : e ≤ 64) (hk : k ≤ 127)
    (hO' : mz_Ok m F' T' K') (hI' : mz_In m F' T' K' a4 a5 a6) (hm : m < 48) (hpg : max (F i) e < T i → mz_pg T' m ≤ max (F i) e)
    (H : ∀ m' F'' T'' K'' b4 b5 b6, mz_Ok m' F'' T'' K'' → mz_In m' F'' T'' K'' b4 b5 b6 → (max (F i) e < T i → mz_pg T'' m' = T i ∧ m' ≤ m + 1) → (T i ≤ max (F i) e → mz_pg T'' m' = mz_pg T' m ∧ m' = m) → J x5 (nI (i + 1)) (nI c) (nI m') a1 a2 a3 b4 b5 b6) :
    wX_protect_168 post J x1 x3 (nI e) x5 (nI i) (nI k) (nI c) (nI m) a1 a2 a3 a4 a5 a6 := by
  unfold wX_protect_168
  have h1 := hO.1 i hi
  have V2 : vp_in (nI i) 20 := vp_in_nI (by omega) (by omega)
  have hi2 : i < 2 ^ 31 := by omega
  exact ⟨V2, mz_greatest (F i) e (mz_rd (hI i hi).1 hi2) rfl (by omega) (by omega) ⟨V2, mz_emit (f := max (F i) e) (e := T i) (k := k) hO' hI' hm (by omega) (by omega) hk hpg rfl (mz_rd (hI i hi).2.1 hi2) rfl (fun m' F'' T'' K'' b4 b5 b6 o n p q => nm_r (nI_1 i) (H m' F'' T'' K'' b4 b5 b6 o n p q))⟩⟩
theorem mz_pr150 {post : Int32 → St1 → Prop} {J : Int32 → Int32 → Int32 → Int32 → (Nat → Int32) → (Nat → Int32) → (Nat → Int32) → (Nat → Int32) → (Nat → Int32) → (Nat → Int32) → Prop}
    {c i f e m k r v d : Nat} {x1 zd : Int32} {F T K F' T' K' : Nat → Nat} {a1 a2 a3 a4 a5 a6 : Nat → Int32}
    (hO : mz_Ok c F T K) (hI : mz_In c F T K a1 a2 a3) (hc : c ≤ 20) (hi : i < c) (hf : f ≤ 64) (he : e ≤ 64) (hk : k ≤ 127) (hr : r ≤ 7) (hlh : max (F i) f < min (T i) e)
    (hO' : mz_Ok m F' T' K') (hI' : mz_In m F' T' K' a4 a5 a6) (hm : m < 47) (hpg : mz_pg T' m ≤ max (F i) f) (hd : zd = nI d)
    (H : ∀ m' F'' T'' K'' b4 b5 b6, mz_Ok m' F'' T'' K'' → mz_In m' F'' T'' K'' b4 b5 b6 → (max (F i) e < T i → mz_pg T'' m' = T i ∧ m' ≤ m + 2) → (T i ≤ max (F i) e → mz_pg T'' m' = min (T i) e ∧ m' ≤ m + 1) → J (nI (v + d)) (nI (i + 1)) (nI c) (nI m') a1 a2 a3 b4 b5 b6) :
    wX_protect_150 post J x1 (nI r) (nI e) (nI i) (nI (max (F i) f)) (nI (min (T i) e)) (nI k) zd (nI v) (nI c) (nI m) a1 a2 a3 a4 a5 a6 := by
  subst hd
  unfold wX_protect_150
  have h1 := hO.1 i hi
  refine nm_r (nI_add v d) (mz_emit (f := max (F i) f) (e := min (T i) e) (k := k / 8 * 8 + r) hO' hI' (by omega) (by omega) (by omega) (by omega) (fun _ => hpg) rfl rfl (mz_or k (by omega) r (by omega)) (fun m1 F1 T1 K1 d4 d5 d6 o1 n1 p1 q1 => ?_))
  have p2 := p1 hlh
  refine mz_pr168 hO hI hc hi he hk o1 n1 (by omega) (fun q => by omega) (fun m2 F2 T2 K2 g4 g5 g6 o2 n2 p3 q3 => ?_)
  exact H m2 F2 T2 K2 g4 g5 g6 o2 n2 (fun q => by omega) (fun q => by omega)
theorem mz_pr50 {post : Int32 → St1 → Prop} {c f e r : Nat} {F T K : Nat → Nat} {a1 a2 a3 a4 a5 a6 : Nat → Int32}
    (hO : mz_Ok c F T K) (hI : mz_In c F T K a1 a2 a3) (hc : c ≤ 20) (hfe : f < e) (he : e ≤ 64) (hr : r ≤ 7)
    (H0 : ∀ mk b4 b5 b6, post (-2) (nI c, mk, a1, a2, a3, b4, b5, b6))
    (H1 : ∀ v c' F' T' K' mk b1 b2 b3 b4 b5 b6, v ≤ 2000 → c' ≤ 20 → mz_Ok c' F' T' K' → mz_In c' F' T' K' b1 b2 b3 → post (nI v) (nI c', mk, b1, b2, b3, b4, b5, b6)) :
    ∃ n, wX_protect_50 post (nI f) (nI r) (nI e) n 0 0 (nI c) 0 a1 a2 a3 a4 a5 a6 := by
  refine pk_loop (σ := Nat × Nat × (Nat → Int32) × (Nat → Int32) × (Nat → Int32))
    (fun n i s => wX_protect_50 post (nI f) (nI r) (nI e) n (nI s.1) (nI i) (nI c) (nI s.2.1) a1 a2 a3 s.2.2.1 s.2.2.2.1 s.2.2.2.2)
    (fun i s => ∃ F' T' K', mz_Ok s.2.1 F' T' K' ∧ mz_In s.2.1 F' T' K' s.2.2.1 s.2.2.2.1 s.2.2.2.2 ∧
      s.1 ≤ 64 * i ∧ mz_pg T' s.2.1 ≤ mz_pg T i ∧ s.2.1 ≤ i + 2 ∧ (mz_pg T i ≤ e → s.2.1 ≤ i + 1) ∧ (mz_pg T i ≤ f → s.2.1 ≤ i))
    c 0 (0, 0, a4, a5, a6) (by omega) ?_ ?_ ?_
  · exact ⟨F, T, K, ⟨fun i hi => absurd hi (Nat.not_lt_zero _), fun i hi => absurd hi (Nat.not_lt_zero _)⟩, fun i hi => absurd hi (Nat.not_lt_zero _), Nat.zero_le _, Nat.le_refl _, Nat.zero_le _, fun _ => Nat.zero_le _, fun _ => Nat.zero_le _⟩
  · rintro n ⟨v, m, b4, b5, b6⟩ ⟨F', T', K', O', N', jv, j1, j2, j3, j4⟩
    dsimp only at O' N' jv j1 j2 j3 j4 ⊢
    refine pk_le c c (fun _ => ?_) (fun q => absurd q (by omega))
    exact mz_commit O' N' (by omega) (br_t rfl (H0 _ _ _ _)) (fun z g1 g2 g3 hg => br_f (by decide) (H1 v m F' T' K' _ _ _ _ _ _ _ (by omega) z O' hg))
  · rintro n i ⟨v, m, b4, b5, b6⟩ hi ⟨F', T', K', O', N', jv, j1, j2, j3, j4⟩ hw
    dsimp only at O' N' jv j1 j2 j3 j4 ⊢
    have h1 := hO.1 i hi
    have h2 := mz_pgF hO hi
    have P := mz_pgS T i
    have hi2 : i < 2 ^ 31 := by omega
    have V2 : vp_in (nI i) 20 := vp_in_nI (by omega) (by omega)
    have R1 := mz_rd (hI i hi).1 hi2
    have R2 := mz_rd (hI i hi).2.1 hi2
    have R3 := mz_rd (hI i hi).2.2 hi2
    refine pk_le c i (fun q => absurd q (by omega)) (fun _ => ⟨V2, mz_greatest (F i) f R1 rfl (by omega) (by omega) ⟨V2, mz_least (T i) e R2 rfl (by omega) (by omega) ⟨V2, nm_r R3 ⟨V2, mz_least (T i) f R2 rfl (by omega) (by omega) ⟨V2, mz_emit (f := F i) (e := min (T i) f) (k := K i) O' N' (by omega) (by omega) (by omega) (by omega) (fun q => by omega) R1 rfl rfl (fun m1 F1 T1 K1 d4 d5 d6 o1 n1 p1 q1 => ?_)⟩⟩⟩⟩⟩)
    refine pk_le (min (T i) e) (max (F i) f) (fun z => ?_) (fun z => ?_)
    · refine mz_pr168 hO hI hc hi he (by omega) o1 n1 (by omega) (fun q' => by omega) (fun m2 F2 T2 K2 g4 g5 g6 o2 n2 p2 q2 => ?_)
      exact hw (v, m2, g4, g5, g6) ⟨F2, T2, K2, o2, n2, by dsimp only; omega, by dsimp only; omega, by dsimp only; omega, fun q => by dsimp only; omega, fun q => by dsimp only; omega⟩
    · refine br_c (fun _ => ?_) (fun _ => ?_)
      · refine mz_pr150 (d := 0) hO hI hc hi (by omega) he (by omega) hr z o1 n1 (by omega) (by omega) rfl (fun m2 F2 T2 K2 g4 g5 g6 o2 n2 p2 q2 => ?_)
        exact hw (v + 0, m2, g4, g5, g6) ⟨F2, T2, K2, o2, n2, by dsimp only; omega, by dsimp only; omega, by dsimp only; omega, fun q => by dsimp only; omega, fun q => by dsimp only; omega⟩
      · refine mz_pr150 (d := min (T i) e - max (F i) f) hO hI hc hi (by omega) he (by omega) hr z o1 n1 (by omega) (by omega) (pk_sub (Nat.le_of_lt z)) (fun m2 F2 T2 K2 g4 g5 g6 o2 n2 p2 q2 => ?_)
        exact hw (v + (min (T i) e - max (F i) f), m2, g4, g5, g6) ⟨F2, T2, K2, o2, n2, by dsimp only; omega, by dsimp only; omega, by dsimp only; omega, fun q => by dsimp only; omega, fun q => by dsimp only; omega⟩
end
section
theorem mz_isProper {post : Int32 → Prop} {f l : Nat} (hf : f < 64) (hl : 1 ≤ l) (hl2 : l ≤ 64) (H0 : post 0) (H1 : f + l ≤ 64 → post 1) : wpX_isProper post () (nI f) (nI l) :=
  pk_lt f 0 (fun z => absurd z (by omega)) (fun _ => pk_le 64 f (fun z => absurd z (by omega)) (fun _ => pk_lt l 1 (fun z => absurd z (by omega)) (fun _ =>
    ek_if (mz_subLt (a := 64) (b := f) (l := l) (by omega) (by omega) (by omega)) (fun _ => H0) (fun z => H1 (by omega)))))
theorem mz_isKind {post : Int32 → Prop} {k : Nat} (hk : k ≤ 127) (H : post 1) : wpX_isKind post () (nI k) :=
  pk_lt k 0 (fun z => absurd z (by omega)) (fun _ => pk_lt 127 k (fun z => absurd z (by omega)) (fun _ => H))
theorem mz_map {post : Int32 → St1 → Prop} {c f l k : Nat} {mk : Int32} {F T K : Nat → Nat} {a1 a2 a3 a4 a5 a6 : Nat → Int32}
    (hO : mz_Ok c F T K) (hI : mz_In c F T K a1 a2 a3) (hc : c ≤ 20) (hf : f < 64) (hl : 1 ≤ l) (hl2 : l ≤ 64) (hk : k ≤ 127)
    (H0 : ∀ r mk b4 b5 b6, (r = -1 ∨ r = -2) → post r (nI c, mk, a1, a2, a3, b4, b5, b6))
    (H1 : ∀ v c' F' T' K' mk b1 b2 b3 b4 b5 b6, v ≤ 2000 → c' ≤ 20 → mz_Ok c' F' T' K' → mz_In c' F' T' K' b1 b2 b3 → post (nI v) (nI c', mk, b1, b2, b3, b4, b5, b6)) :
    wpX_map post (nI c, mk, a1, a2, a3, a4, a5, a6) (nI f) (nI l) (nI k) := by
  unfold wpX_map
  refine mz_isProper hf hl hl2 (br_t rfl (H0 _ _ _ _ _ (Or.inl rfl))) (fun hfl => br_f (by decide) (mz_isKind hk (br_f (by decide) ?_)))
  have h1 := mz_mi_le hO f (f + l) c (Nat.le_refl c)
  refine mz_mappedIn hO hI hc (lo := f) (hi := f + l) (by omega) (by omega) rfl (nI_add f l) ?_
  exact mz_rewrite hO hI hc (f := f) (e := f + l) (by omega) hfl rfl (nI_add f l) (Or.inr ⟨k, hk, rfl⟩)
    (fun mk' b4 b5 b6 => br_t rfl (H0 _ _ _ _ _ (Or.inr rfl)))
    (fun c' F' T' K' mk' b1 b2 b3 b4 b5 b6 g1 g2 g3 => br_f (by decide) (H1 _ c' F' T' K' _ _ _ _ _ _ _ (by omega) g1 g2 g3))
theorem mz_free {post : Int32 → St1 → Prop} {c f l : Nat} {mk : Int32} {F T K : Nat → Nat} {a1 a2 a3 a4 a5 a6 : Nat → Int32}
    (hO : mz_Ok c F T K) (hI : mz_In c F T K a1 a2 a3) (hc : c ≤ 20) (hf : f < 64) (hl : 1 ≤ l) (hl2 : l ≤ 64)
    (H0 : ∀ r mk b4 b5 b6, (r = -1 ∨ r = -2) → post r (nI c, mk, a1, a2, a3, b4, b5, b6))
    (H1 : ∀ v c' F' T' K' mk b1 b2 b3 b4 b5 b6, v ≤ 2000 → c' ≤ 20 → mz_Ok c' F' T' K' → mz_In c' F' T' K' b1 b2 b3 → post (nI v) (nI c', mk, b1, b2, b3, b4, b5, b6)) :
    wpX_free post (nI c, mk, a1, a2, a3, a4, a5, a6) (nI f) (nI l) := by
  unfold wpX_free
  refine mz_isProper hf hl hl2 (br_t rfl (H0 _ _ _ _ _ (Or.inl rfl))) (fun hfl => br_f (by decide) ?_)
  have h1 := mz_mi_le hO f (f + l) c (Nat.le_refl c)
  refine mz_mappedIn hO hI hc (lo := f) (hi := f + l) (by omega) (by omega) rfl (nI_add f l) ?_
  exact mz_rewrite hO hI hc (f := f) (e := f + l) (by omega) hfl rfl (nI_add f l) (Or.inl rfl)
    (fun mk' b4 b5 b6 => br_t rfl (H0 _ _ _ _ _ (Or.inr rfl)))
    (fun c' F' T' K' mk' b1 b2 b3 b4 b5 b6 g1 g2 g3 => br_f (by decide) (H1 _ c' F' T' K' _ _ _ _ _ _ _ (by omega) g1 g2 g3))
theorem mz_protect {post : Int32 → St1 → Prop} {c f l r : Nat} {mk : Int32} {F T K : Nat → Nat} {a1 a2 a3 a4 a5 a6 : Nat → Int32}
    (hO : mz_Ok c F T K) (hI : mz_In c F T K a1 a2 a3) (hc : c ≤ 20) (hf : f < 64) (hl : 1 ≤ l) (hl2 : l ≤ 64) (hr : r ≤ 7)
    (H0 : ∀ r mk b4 b5 b6, (r = -1 ∨ r = -2 ∨ r = -3) → post r (nI c, mk, a1, a2, a3, b4, b5, b6))
    (H1 : ∀ v c' F' T' K' mk b1 b2 b3 b4 b5 b6, v ≤ 2000 → c' ≤ 20 → mz_Ok c' F' T' K' → mz_In c' F' T' K' b1 b2 b3 → post (nI v) (nI c', mk, b1, b2, b3, b4, b5, b6)) :
    wpX_protect post (nI c, mk, a1, a2, a3, a4, a5, a6) (nI f) (nI l) (nI r) := by
  unfold wpX_protect
  refine mz_isProper hf hl hl2 (br_t rfl (H0 _ _ _ _ _ (Or.inl rfl))) (fun hfl => br_f (by decide) (pk_lt r 0 (fun z => absurd z (by omega)) (fun _ => pk_le r 7 (fun _ => nm_r (nI_add f l) ?_) (fun z => absurd z (by omega)))))
  refine mz_mappedIn hO hI hc (lo := f) (hi := f + l) (by omega) (by omega) rfl rfl ?_
  exact br_c (fun _ => mz_pr50 hO hI hc (by omega) hfl hr (fun mk' b4 b5 b6 => H0 _ _ _ _ _ (Or.inr (Or.inl rfl))) H1) (fun _ => H0 _ _ _ _ _ (Or.inr (Or.inr rfl)))
theorem mz_pl61 {post : Int32 → St1 → Prop} {c f l k : Nat} {mk : Int32} {F T K : Nat → Nat} {a1 a2 a3 a4 a5 a6 : Nat → Int32}
    (hO : mz_Ok c F T K) (hI : mz_In c F T K a1 a2 a3) (hc : c ≤ 20) (hl : 1 ≤ l) (hfl : f + l ≤ 64) (hk : k ≤ 127)
    (H0 : ∀ mk b4 b5 b6, post (-2) (nI c, mk, a1, a2, a3, b4, b5, b6))
    (H1 : ∀ v c' F' T' K' mk b1 b2 b3 b4 b5 b6, v ≤ 2000 → c' ≤ 20 → mz_Ok c' F' T' K' → mz_In c' F' T' K' b1 b2 b3 → post (nI v) (nI c', mk, b1, b2, b3, b4, b5, b6)) :
    wX_place_61 post (nI l) (nI k) (nI f) (nI c) mk a1 a2 a3 a4 a5 a6 := by
  unfold wX_place_61
  exact br_t (nI_pos' (by omega)) (mz_rewrite hO hI hc (f := f) (e := f + l) (by omega) hfl rfl (nI_add f l) (Or.inr ⟨k, hk, rfl⟩)
    (fun mk' b4 b5 b6 => br_t rfl (H0 _ _ _ _))
    (fun c' F' T' K' mk' b1 b2 b3 b4 b5 b6 g1 g2 g3 => br_f (by decide) (H1 _ c' F' T' K' _ _ _ _ _ _ _ (by omega) g1 g2 g3)))
theorem mz_place {post : Int32 → St1 → Prop} {c s l k : Nat} {mk : Int32} {F T K : Nat → Nat} {a1 a2 a3 a4 a5 a6 : Nat → Int32}
    (hO : mz_Ok c F T K) (hI : mz_In c F T K a1 a2 a3) (hc : c ≤ 20) (hs : s < 64) (hl : 1 ≤ l) (hl2 : l ≤ 64) (hk : k ≤ 127)
    (H0 : ∀ r mk b4 b5 b6, (r = -2 ∧ l ≤ mz_lf F T c ∨ r = -3 ∧ mz_lf F T c < l) → post r (nI c, mk, a1, a2, a3, b4, b5, b6))
    (H1 : ∀ v c' F' T' K' mk b1 b2 b3 b4 b5 b6, l ≤ mz_lf F T c → v ≤ 2000 → c' ≤ 20 → mz_Ok c' F' T' K' → mz_In c' F' T' K' b1 b2 b3 → post (nI v) (nI c', mk, b1, b2, b3, b4, b5, b6)) :
    wpX_place post (nI c, mk, a1, a2, a3, a4, a5, a6) (nI s) (nI l) (nI k) := by
  have P : ∀ q, q + l ≤ 64 → l ≤ mz_lf F T c → wX_place_61 post (nI l) (nI k) (nI q) (nI c) mk a1 a2 a3 a4 a5 a6 := fun q h1 h2 =>
    mz_pl61 hO hI hc hl h1 hk (fun mk' b4 b5 b6 => H0 _ _ _ _ _ (Or.inl ⟨rfl, h2⟩)) (fun v c' F' T' K' mk' b1 b2 b3 b4 b5 b6 g0 g1 g2 g3 => H1 v c' F' T' K' mk' b1 b2 b3 b4 b5 b6 h2 g0 g1 g2 g3)
  unfold wpX_place
  refine pk_lt l 1 (fun z => absurd z (by omega)) (fun _ => pk_lt s 0 (fun z => absurd z (by omega)) (fun _ => pk_le 64 s (fun z => absurd z (by omega)) (fun _ => mz_isKind hk (br_f (by decide) (pk_le l 64 (fun _ => ?_) (fun z => absurd z (by omega)))))))
  refine mz_room hO hI hc (by omega) hl hl2 (fun q h1 h2 => ?_) (fun h => ?_)
  · exact br_t (nI_pos' (by omega)) (P q h1 h2)
  · refine br_f (by decide) (pk_lt 64 l (fun z => absurd z (by omega)) (fun _ => ?_))
    refine mz_room (s := 0) hO hI hc (by omega) hl hl2 (fun q h1 h2 => P q h1 h2) (fun h' => ?_)
    exact br_f (by decide) (H0 _ _ _ _ _ (Or.inr ⟨rfl, h' rfl⟩))
theorem mz_call {post : Int32 → St1 → Prop} {c w : Nat} {x mk : Int32} {F T K : Nat → Nat} {a1 a2 a3 a4 a5 a6 : Nat → Int32} {l : Nat}
    (hO : mz_Ok c F T K) (hI : mz_In c F T K a1 a2 a3) (hc : c ≤ 20) (hw : w < 16) (hl : 1 ≤ l) (hl2 : l ≤ 64) (el : 1 + ((x >>> ((6 : Int32) &&& 31)) &&& 7) = nI l)
    (H0 : ∀ r mk b4 b5 b6, (r = -1 ∨ r = -2 ∨ r = -3) → (6 ≤ w → w < 9 → (r = -3 ∧ mz_lf F T c < l) ∨ (¬ r = -3 ∧ l ≤ mz_lf F T c)) → post r (nI c, mk, a1, a2, a3, b4, b5, b6))
    (H1 : ∀ v c' F' T' K' mk b1 b2 b3 b4 b5 b6, (6 ≤ w → w < 9 → l ≤ mz_lf F T c) → v ≤ 2000 → c' ≤ 20 → mz_Ok c' F' T' K' → mz_In c' F' T' K' b1 b2 b3 → post (nI v) (nI c', mk, b1, b2, b3, b4, b5, b6)) :
    wpL_call post (nI c, mk, a1, a2, a3, a4, a5, a6) (nI w) x := by
  unfold wpL_call
  obtain ⟨f, hf, ef⟩ := pk_andE x (m := 63) 6 (by decide)
  obtain ⟨r, hr, er⟩ := pk_andE (x >>> ((9 : Int32) &&& 31)) (m := 3) 2 (by decide)
  obtain ⟨t, ht, et⟩ := pk_andE (x >>> ((11 : Int32) &&& 31)) (m := 1) 1 (by decide)
  have hf' : f < 64 := hf
  have hr' : r < 4 := hr
  have ht' : t < 2 := ht
  refine nm_r ef (nm_r el (nm_r (e' := nI (r + 8 * t)) (by rw [er, et, ← nI_add, ← pk_mul]; rfl) ?_))
  refine pk_le 6 w (fun z6 => pk_le 9 w (fun z9 => pk_le 12 w (fun z12 => ?_) (fun z12 => ?_)) (fun z9 => ?_)) (fun z6 => ?_)
  · rw [er]
    exact mz_protect hO hI hc hf' hl hl2 (by omega) (fun r' mk' b4 b5 b6 h => H0 r' mk' b4 b5 b6 h (fun _ q => absurd q (by omega)))
      (fun v c' F' T' K' mk' b1 b2 b3 b4 b5 b6 g0 g1 g2 g3 => H1 v c' F' T' K' mk' b1 b2 b3 b4 b5 b6 (fun _ q => absurd q (by omega)) g0 g1 g2 g3)
  · exact mz_free hO hI hc hf' hl hl2 (fun r' mk' b4 b5 b6 h => H0 r' mk' b4 b5 b6 (h.elim Or.inl (fun q => Or.inr (Or.inl q))) (fun _ q => absurd q (by omega)))
      (fun v c' F' T' K' mk' b1 b2 b3 b4 b5 b6 g0 g1 g2 g3 => H1 v c' F' T' K' mk' b1 b2 b3 b4 b5 b6 (fun _ q => absurd q (by omega)) g0 g1 g2 g3)
  · refine mz_place hO hI hc hf' hl hl2 (by omega) (fun r' mk' b4 b5 b6 h => ?_)
      (fun v c' F' T' K' mk' b1 b2 b3 b4 b5 b6 g g0 g1 g2 g3 => H1 v c' F' T' K' mk' b1 b2 b3 b4 b5 b6 (fun _ _ => g) g0 g1 g2 g3)
    rcases h with ⟨h1, h2⟩ | ⟨h1, h2⟩
    · exact H0 r' mk' b4 b5 b6 (Or.inr (Or.inl h1)) (fun _ _ => Or.inr ⟨by rw [h1]; decide, h2⟩)
    · exact H0 r' mk' b4 b5 b6 (Or.inr (Or.inr h1)) (fun _ _ => Or.inl ⟨h1, h2⟩)
  · exact mz_map hO hI hc hf' hl hl2 (by omega) (fun r' mk' b4 b5 b6 h => H0 r' mk' b4 b5 b6 (h.elim Or.inl (fun q => Or.inr (Or.inl q))) (fun q _ => absurd q (by omega)))
      (fun v c' F' T' K' mk' b1 b2 b3 b4 b5 b6 g0 g1 g2 g3 => H1 v c' F' T' K' mk' b1 b2 b3 b4 b5 b6 (fun q _ => absurd q (by omega)) g0 g1 g2 g3)
end
section
theorem mz_ne3 {a : Nat} (h : a < 2 ^ 31) : ¬ nI a = -3 := by
  intro e
  have h1 := congrArg Int32.toInt e
  rw [nI_toInt h, show (-3 : Int32).toInt = -3 by decide] at h1
  omega
theorem mz_mapped {post : Int32 → Prop} {c : Nat} {F T K : Nat → Nat} {mk : Int32} {a1 a2 a3 a4 a5 a6 : Nat → Int32}
    (hO : mz_Ok c F T K) (hI : mz_In c F T K a1 a2 a3) (hc : c ≤ 20) (H : post (nI (mz_ln F T c))) :
    wpX_mapped post (nI c, mk, a1, a2, a3, a4, a5, a6) := by
  unfold wpX_mapped
  rw [← mz_mi_ln hO c (Nat.le_refl c)] at H
  exact mz_mappedIn hO hI hc (lo := 0) (hi := 64) (by omega) (by omega) rfl rfl H
theorem mz_ar121 {post : Int32 → Prop} {J : Int32 → Int32 → Int32 → Prop} {c i v : Nat} {F T K : Nat → Nat} {x1 mk : Int32} {a1 a2 a3 a4 a5 a6 : Nat → Int32}
    (hO : mz_Ok c F T K) (hI : mz_In c F T K a1 a2 a3) (hc : c ≤ 20) (hi : i < c) (H : J (nI (v + (T i - F i))) (nI (T i)) (nI (i + 1))) :
    ∃ n, wL_areas_121 post J x1 (nI v) (nI i) (nI (F i)) (nI (T i - F i)) (nI c) mk a1 a2 a3 a4 a5 a6 n (nI (F i)) := by
  have h1 := hO.1 i hi
  have E : nI (F i) + nI (T i - F i) = nI (T i) := by
    rw [nI_add, show F i + (T i - F i) = T i by omega]
  refine pk_loop (σ := Unit) (fun n p _ => wL_areas_121 post J x1 (nI v) (nI i) (nI (F i)) (nI (T i - F i)) (nI c) mk a1 a2 a3 a4 a5 a6 n (nI p)) (fun p _ => F i ≤ p) (T i) (F i) () (by omega) (Nat.le_refl _)
    (fun n _ _ => ?_) (fun n p _ hp hp2 hw => ?_)
  · exact pk_le (T i) (T i) (fun _ => nm_r (nI_add v (T i - F i)) (nm_r E (nm_r (nI_1 i) H))) (fun z => absurd z (by omega)) (hx := E)
  · have hp3 : F i ≤ p := hp2
    refine pk_le (T i) p (fun z => absurd z (by omega)) (fun _ => mz_areaOf hO hI hc (by omega) (fun j hj q1 q2 => ?_) (fun h => absurd ⟨hp3, hp⟩ (h i hi))) (hx := E)
    have e := mz_uni hO hi hj ⟨hp3, hp⟩ ⟨q1, q2⟩
    exact br_t (congrArg nI e.symm) (nm_r (nI_1 p) (hw () (show F i ≤ p + 1 by omega)))
theorem mz_ar95 {post : Int32 → Prop} {J : Int32 → Int32 → Int32 → Prop} {c i v : Nat} {F T K : Nat → Nat} {x1 mk : Int32} {a1 a2 a3 a4 a5 a6 : Nat → Int32}
    (hO : mz_Ok c F T K) (hI : mz_In c F T K a1 a2 a3) (hc : c ≤ 20) (hi : i < c) (H : J (nI (v + (T i - F i))) (nI (T i)) (nI (i + 1))) :
    wL_areas_95 post J x1 (nI v) (nI (mz_pg T i)) (nI i) (nI (F i)) (nI (T i - F i)) (nI c) mk a1 a2 a3 a4 a5 a6 := by
  have h1 := hO.1 i hi
  have h2 := mz_pgF hO hi
  unfold wL_areas_95 wL_areas_96
  exact pk_lt (F i) (mz_pg T i) (fun z => absurd z (by omega)) (fun _ => pk_lt (T i - F i) 1 (fun z => absurd z (by omega)) (fun _ => br_t rfl (mz_ar121 hO hI hc hi H)))
theorem mz_ar50 {post : Int32 → Prop} {J : Int32 → Int32 → Int32 → Prop} {c j v : Nat} {F T K : Nat → Nat} {x1 mk : Int32} {a1 a2 a3 a4 a5 a6 : Nat → Int32}
    (hO : mz_Ok c F T K) (hI : mz_In c F T K a1 a2 a3) (hc : c ≤ 20) (hi : j + 1 < c) (e : F (j + 1) = T j) (H : J (nI (v + (T (j + 1) - F (j + 1)))) (nI (T (j + 1))) (nI (j + 1 + 1))) :
    wL_areas_50 post J x1 (nI v) (nI (mz_pg T (j + 1))) (nI (j + 1)) (nI (F (j + 1))) (nI (T (j + 1) - F (j + 1))) 1 (nI c) mk a1 a2 a3 a4 a5 a6 := by
  have A := mz_ar95 (post := post) (x1 := x1) (mk := mk) (a4 := a4) (a5 := a5) (a6 := a6) hO hI hc hi H
  have h1 := hO.1 j (by omega)
  have h2 := hO.1 (j + 1) hi
  have h3 := (hO.2 j hi).2
  have E : nI (F (j + 1)) - 1 = nI (F (j + 1) - 1) := pk_sub (a := F (j + 1)) (b := 1) (by omega)
  unfold wL_areas_50
  rw [E]
  refine br_f (by decide) (mz_rights hO hI hc (by omega) (mz_rights hO hI hc (by omega) ?_))
  rw [mz_rt_at hO hi (p := F (j + 1)) (by omega) (by omega), mz_rt_at hO (i := j) (p := F (j + 1) - 1) (by omega) (by omega) (by omega)]
  refine pk_eq (K (j + 1) % 8) (K j % 8) (fun q => mz_tag hO hI hc (by omega) (mz_tag hO hI hc (by omega) ?_)) (fun _ => A)
  rw [mz_tg_at hO hi (p := F (j + 1)) (by omega) (by omega), mz_tg_at hO (i := j) (p := F (j + 1) - 1) (by omega) (by omega) (by omega)]
  exact pk_eq (K (j + 1) / 8) (K j / 8) (fun q2 => absurd (show T j = F (j + 1) ∧ K j = K (j + 1) by omega) h3) (fun _ => A)
theorem mz_ar173 {post : Int32 → Prop} {c : Nat} {F T K : Nat → Nat} {mk : Int32} {a1 a2 a3 a4 a5 a6 : Nat → Int32}
    (hO : mz_Ok c F T K) (hI : mz_In c F T K a1 a2 a3) (hc : c ≤ 20) (H : post 1) :
    ∃ n, wL_areas_173 post (nI c) (nI (mz_ln F T c)) (nI (mz_pg T c)) (nI c) mk a1 a2 a3 a4 a5 a6 n 0 0 := by
  have h1 := mz_pg64 hO (Nat.le_refl c)
  have h2 := mz_lf64 hO
  have h3 := mz_mi_ln hO c (Nat.le_refl c)
  have main : ∃ n, wL_areas_173 post (nI c) (nI (mz_ln F T c)) (nI (mz_pg T c)) (nI c) mk a1 a2 a3 a4 a5 a6 n (nI (mz_mi F T 0 0 c)) (nI 0) := by
    refine pk_loop (σ := Unit) (fun n p _ => wL_areas_173 post (nI c) (nI (mz_ln F T c)) (nI (mz_pg T c)) (nI c) mk a1 a2 a3 a4 a5 a6 n (nI (mz_mi F T 0 p c)) (nI p)) (fun _ _ => True) 64 0 () (by omega) trivial
      (fun n _ _ => ?_) (fun n p _ hp _ hw => ?_)
    · refine pk_le 64 64 (fun _ => pk_lt 20 c (fun z => absurd z (by omega)) (fun _ => mz_mapped hO hI hc ?_)) (fun z => absurd z (by omega))
      refine pk_eq (mz_ln F T c) (mz_ln F T c) (fun _ => pk_eq (mz_mi F T 0 64 c) (mz_ln F T c) (fun _ => pk_lt 64 (mz_pg T c) (fun z => absurd z (by omega)) (fun _ => mz_longest hO hI hc ?_)) (fun z => absurd h3 z)) (fun z => absurd rfl z)
      exact ek_if (mz_subLt (a := 64) (b := mz_ln F T c) (l := mz_lf F T c) (by omega) (by omega) (by omega)) (fun z => absurd z (by omega)) (fun _ => mz_noFirst hc (br_t rfl H))
    · refine pk_le 64 p (fun z => absurd z (by omega)) (fun _ => mz_rights hO hI hc hp ?_)
      have hw' : wL_areas_173 post (nI c) (nI (mz_ln F T c)) (nI (mz_pg T c)) (nI c) mk a1 a2 a3 a4 a5 a6 n (nI (mz_mi F T 0 (p + 1) c)) (nI (p + 1)) := hw () trivial
      by_cases q : ∃ i, i < c ∧ F i ≤ p ∧ p < T i
      · obtain ⟨i, hi, q1, q2⟩ := q
        have e := mz_mi_at c hi ⟨q1, q2⟩ (fun j hj q => mz_uni hO hi hj ⟨q1, q2⟩ q)
        rw [e, ← nI_1] at hw'
        rw [mz_rt_at hO hi q1 q2]
        exact br_f (mz_ne3 (by omega)) (br_f (c := (1 : Int32) = 0) (by decide) (br_f (c := (1 : Int32) = 0) (by decide) (nm_r (nI_1 p) hw')))
      · have q' : ∀ i, i < c → ¬ (F i ≤ p ∧ p < T i) := fun i hi z => q ⟨i, hi, z⟩
        rw [mz_mi_no c q'] at hw'
        rw [mz_rt_no q']
        exact br_t rfl (br_t (c := (0 : Int32) = 0) rfl (br_t (c := (0 : Int32) = 0) rfl (mz_areaOf hO hI hc hp (fun i hi z1 z2 => absurd ⟨z1, z2⟩ (q' i hi)) (fun _ => br_t rfl (nm_r (nI_1 p) hw')))))
  rw [mz_mi_0] at main
  exact main
theorem mz_areas {post : Int32 → Prop} {c : Nat} {F T K : Nat → Nat} {mk : Int32} {a1 a2 a3 a4 a5 a6 : Nat → Int32}
    (hO : mz_Ok c F T K) (hI : mz_In c F T K a1 a2 a3) (hc : c ≤ 20) (H : post 1) :
    wpL_areas post (nI c, mk, a1, a2, a3, a4, a5, a6) := by
  have main : ∃ n, wL_areas_12 post (nI c) (nI c) mk a1 a2 a3 a4 a5 a6 n 0 0 0 := by
    refine pk_loop (σ := Unit) (fun n i _ => wL_areas_12 post (nI c) (nI c) mk a1 a2 a3 a4 a5 a6 n (nI (mz_ln F T i)) (nI (mz_pg T i)) (nI i)) (fun _ _ => True) c 0 () (by omega) trivial
      (fun n _ _ => ?_) (fun n i _ hi _ hw => ?_)
    · exact pk_le c c (fun _ => mz_ar173 hO hI hc H) (fun z => absurd z (by omega))
    · have h1 := hO.1 i hi
      have h2 := mz_pgF hO hi
      have hw' : wL_areas_12 post (nI c) (nI c) mk a1 a2 a3 a4 a5 a6 n (nI (mz_ln F T i + (T i - F i))) (nI (T i)) (nI (i + 1)) := hw () trivial
      have A := mz_ar95 (post := post) (J := wL_areas_12 post (nI c) (nI c) mk a1 a2 a3 a4 a5 a6 n) (x1 := nI c) (mk := mk) (a4 := a4) (a5 := a5) (a6 := a6) hO hI hc hi hw'
      refine pk_le c i (fun z => absurd z (by omega)) (fun _ => mz_areaFirst hI hc hi (mz_areaLength hO hI hc hi ?_))
      refine pk_le i 0 (fun _ => br_t (c := (0 : Int32) = 0) rfl A) (fun z => pk_eq (F i) (mz_pg T i) (fun q => ?_) (fun _ => br_t (c := (0 : Int32) = 0) rfl A))
      obtain ⟨j, rfl⟩ : ∃ j, i = j + 1 := ⟨i - 1, by omega⟩
      exact mz_ar50 hO hI hc hi q hw'
  unfold wpL_areas
  exact main
end
section
theorem mz_l97 {post : Int32 → Prop} {L : Nat} {xs : Nat → Int32} {J : Int32 → Int32 → Int32 → (Nat → Int32) → (Nat → Int32) → (Nat → Int32) → (Nat → Int32) → (Nat → Int32) → (Nat → Int32) → Prop}
    {x2 x8 x10 cn mk : Int32} {kc ks l lf : Nat} {a1 a2 a3 a4 a5 a6 : Nat → Int32} (hl : l ≤ 64) (hlf : lf ≤ 64)
    (z : x10 = 0 ∨ ((x8 = -3 ∧ lf < l) ∨ (¬ x8 = -3 ∧ l ≤ lf))) (H : wL_law_129 post L xs J x2 kc ks cn mk a1 a2 a3 a4 a5 a6) :
    wL_law_97 post L xs J x2 (nI lf) x8 (nI l) x10 kc ks cn mk a1 a2 a3 a4 a5 a6 := by
  unfold wL_law_97
  by_cases q : x10 = 0
  · exact br_t q H
  · refine br_f q ?_
    rcases z with z | ⟨z1, z2⟩ | ⟨z1, z2⟩
    · exact absurd z q
    · exact br_t z1 (pk_le l lf (fun z => absurd z (by omega)) (fun _ => br_t rfl H))
    · exact br_f z1 (pk_le l lf (fun _ => br_t rfl H) (fun z => absurd z (by omega)))
theorem mz_law {L : Nat} {xs : Nat → Int32} {kc ks : Nat} (hL : L ≤ 260) :
    ∃ n, wL_law_10 (fun r => r = 1) L xs kc ks n 0 0 0 (fun _ => 0) (fun _ => 0) (fun _ => 0) (fun _ => 0) (fun _ => 0) (fun _ => 0) := by
  refine pk_loop (σ := Nat × Int32 × (Nat → Int32) × (Nat → Int32) × (Nat → Int32) × (Nat → Int32) × (Nat → Int32) × (Nat → Int32))
    (fun n k s => wL_law_10 (fun r => r = 1) L xs kc ks n (nI k) (nI s.1) s.2.1 s.2.2.1 s.2.2.2.1 s.2.2.2.2.1 s.2.2.2.2.2.1 s.2.2.2.2.2.2.1 s.2.2.2.2.2.2.2)
    (fun k s => s.1 ≤ 20 ∧ ∃ F T K, mz_Ok s.1 F T K ∧ mz_In s.1 F T K s.2.2.1 s.2.2.2.1 s.2.2.2.2.1)
    L 0 (0, 0, (fun _ => 0), (fun _ => 0), (fun _ => 0), (fun _ => 0), (fun _ => 0), (fun _ => 0)) (by omega) ?_ ?_ ?_
  · exact ⟨Nat.zero_le _, fun _ => 0, fun _ => 0, fun _ => 0, ⟨fun i hi => absurd hi (Nat.not_lt_zero _), fun i hi => absurd hi (Nat.not_lt_zero _)⟩, fun i hi => absurd hi (Nat.not_lt_zero _)⟩
  · intro n s h
    exact pk_le L L (fun _ => rfl) (fun z => absurd z (by omega))
  · rintro n k ⟨c, mk, a1, a2, a3, a4, a5, a6⟩ hk ⟨hc, F, T, K, hO, hI⟩ hw
    dsimp only at hc hO hI ⊢
    have V : vp_in (nI k) L := vp_in_nI hk (by omega)
    have hlf := mz_lf64 hO
    obtain ⟨w, hw4, ew⟩ := pk_andE (xs (nI k).toNatClampNeg) (m := 15) 4 (by decide)
    have hw16 : w < 16 := hw4
    refine pk_le L k (fun z => absurd z (by omega)) (fun _ => ⟨V, nm_r ew ⟨V, fun x _ => ?_⟩⟩)
    obtain ⟨l, hl8, el⟩ := pk_andE (x >>> ((6 : Int32) &&& 31)) (m := 7) 3 (by decide)
    have hl8' : l < 8 := hl8
    have el' : 1 + ((x >>> ((6 : Int32) &&& 31)) &&& 7) = nI (1 + l) := by
      rw [el]
      exact nI_add 1 l
    have NX : ∀ c' F' T' K' mk' b1 b2 b3 b4 b5 b6, c' ≤ 20 → mz_Ok c' F' T' K' → mz_In c' F' T' K' b1 b2 b3 → wL_law_129 (fun r => r = 1) L xs (wL_law_10 (fun r => r = 1) L xs kc ks n) (nI k) kc ks (nI c') mk' b1 b2 b3 b4 b5 b6 := by
      intro c' F' T' K' mk' b1 b2 b3 b4 b5 b6 g1 g2 g3
      unfold wL_law_129
      exact mz_areas g2 g3 g1 (br_f (by decide) (nm_r (nI_1 k) (hw (c', mk', b1, b2, b3, b4, b5, b6) ⟨g1, F', T', K', g2, g3⟩)))
    refine mz_view hO hI hc (mz_longest hO hI hc (mz_call hO hI hc hw16 (l := 1 + l) (by omega) (by omega) el' (fun r mk' b4 b5 b6 hr hp => nm_r el' ?_) (fun v c' F' T' K' mk' b1 b2 b3 b4 b5 b6 hp hv g1 g2 g3 => nm_r el' ?_)))
    · have N := NX c F T K mk' a1 a2 a3 b4 b5 b6 hc hO hI
      have hr0 : ¬ 0 ≤ r := by
        rcases hr with e | e | e
        · rw [e]
          decide
        · rw [e]
          decide
        · rw [e]
          decide
      refine pk_lt w 6 (fun z => ?_) (fun z => pk_le 9 w (fun z9 => ?_) (fun z9 => ?_))
      · exact br_f hr0 (mz_view hO hI hc (br_t rfl (mz_l97 (by omega) (by omega) (Or.inl rfl) N)))
      · exact br_f hr0 (mz_view hO hI hc (br_t rfl (mz_l97 (by omega) (by omega) (Or.inl rfl) N)))
      · exact br_f hr0 (mz_view hO hI hc (br_t rfl (mz_l97 (by omega) (by omega) (Or.inr (hp z z9)) N)))
    · have N := NX c' F' T' K' mk' b1 b2 b3 b4 b5 b6 g1 g2 g3
      have hv0 : (0 : Int32) ≤ nI v := nI_pos' (by omega)
      refine pk_lt w 6 (fun z => ?_) (fun z => pk_le 9 w (fun z9 => ?_) (fun z9 => ?_))
      · exact br_t hv0 (mz_l97 (by omega) (by omega) (Or.inl rfl) N)
      · exact br_t hv0 (mz_l97 (by omega) (by omega) (Or.inl rfl) N)
      · exact br_t hv0 (mz_l97 (by omega) (by omega) (Or.inr (Or.inr ⟨mz_ne3 (by omega), hp z z9⟩)) N)
theorem i_vc (xs : Nat → Int32) (L : Nat) (hL : L ≤ 260) : wpL_law (fun r => r = 1) L xs := by
  unfold wpL_law
  refine ⟨6, 204, by omega, by omega, ?_⟩
  unfold wpX_init
  exact ⟨by omega, by omega, by omega, by omega, by omega, by omega, by omega, by omega, by omega, by omega, by omega, by omega, mz_law hL⟩
end
