section
/-! ints as Int32: the ring map, comparisons in range -/
def pq_z (x : Int) : Int32 := Int32.ofInt x
theorem pq_add (a b : Int) : pq_z a + pq_z b = pq_z (a + b) := (Int32.ofInt_add a b).symm
theorem pq_sub (a b : Int) : pq_z a - pq_z b = pq_z (a - b) := (Int32.ofInt_sub a b).symm
theorem pq_mul (a b : Int) : pq_z a * pq_z b = pq_z (a * b) := (Int32.ofInt_mul a b).symm
theorem pq_neg (a : Int) : -pq_z a = pq_z (-a) := (Int32.ofInt_neg a).symm
theorem pq_nz (n : Nat) : nI n = pq_z (n : Int) := Int32.ofInt_eq_ofNat.symm
theorem pq_of32 (x : Int32) : x = pq_z x.toInt := (Int32.ofInt_toInt x).symm
/-- in range -/
def pq_r (a : Int) : Prop := -2147483648 ≤ a ∧ a < 2147483648
theorem pq_ti {a : Int} (h : pq_r a) : (pq_z a).toInt = a := by
  obtain ⟨h1, h2⟩ := h
  exact Int32.toInt_ofInt_of_le (by omega) (by omega)
theorem pq_le {a b : Int} (ha : pq_r a) (hb : pq_r b) : pq_z a ≤ pq_z b ↔ a ≤ b := by
  rw [Int32.le_iff_toInt_le, pq_ti ha, pq_ti hb]
theorem pq_lt {a b : Int} (ha : pq_r a) (hb : pq_r b) : pq_z a < pq_z b ↔ a < b := by
  rw [Int32.lt_iff_toInt_lt, pq_ti ha, pq_ti hb]
theorem pq_eq {a b : Int} (ha : pq_r a) (hb : pq_r b) : pq_z a = pq_z b ↔ a = b := by
  constructor
  · intro h
    rw [← pq_ti ha, ← pq_ti hb, h]
  · intro h
    rw [h]
theorem pq_r32 (x : Int32) : pq_r x.toInt := by
  have h1 := Int32.le_toInt x
  have h2 := Int32.toInt_lt x
  exact ⟨by omega, by omega⟩
theorem pq_ble {x y : Int32} {A B : Prop} (a b : Int) (f : a ≤ b → A) (g : b < a → B) (ha : pq_r a) (hb : pq_r b) (hx : x = pq_z a := by rfl) (hy : y = pq_z b := by rfl) : (x ≤ y → A) ∧ (¬ x ≤ y → B) := by
  subst hx
  subst hy
  rw [pq_le ha hb]
  exact ⟨f, fun h => g (by omega)⟩
theorem pq_blt {x y : Int32} {A B : Prop} (a b : Int) (f : a < b → A) (g : b ≤ a → B) (ha : pq_r a) (hb : pq_r b) (hx : x = pq_z a := by rfl) (hy : y = pq_z b := by rfl) : (x < y → A) ∧ (¬ x < y → B) := by
  subst hx
  subst hy
  rw [pq_lt ha hb]
  exact ⟨f, fun h => g (by omega)⟩
theorem pq_beq {x y : Int32} {A B : Prop} (a b : Int) (f : a = b → A) (g : a ≠ b → B) (ha : pq_r a) (hb : pq_r b) (hx : x = pq_z a := by rfl) (hy : y = pq_z b := by rfl) : (x = y → A) ∧ (¬ x = y → B) := by
  subst hx
  subst hy
  rw [pq_eq ha hb]
  exact ⟨f, fun h => g h⟩
/-- indices: c * s + k -/
theorem pq_ix {c : Int32} (m s k : Nat) (hc : c = nI m := by rfl) : c * nI s + nI k = nI (m * s + k) := by
  rw [hc, pk_mul, nI_add]
theorem pq_ix1 {c : Int32} (m s k : Nat) (hc : c = nI m := by rfl) : c * nI s + nI k + 1 = nI (m * s + k + 1) := by
  rw [hc, pk_mul, nI_add, nI_1]
theorem pq_ixc {c : Int32} (m s k : Nat) (h : m * s + k < 2 ^ 31) (hc : c = nI m := by rfl) : (c * nI s + nI k).toNatClampNeg = m * s + k := by
  rw [pq_ix m s k hc, nI_clamp h]
theorem pq_ixc1 {c : Int32} (m s k : Nat) (h : m * s + k + 1 < 2 ^ 31) (hc : c = nI m := by rfl) : (c * nI s + nI k + 1).toNatClampNeg = m * s + k + 1 := by
  rw [pq_ix1 m s k hc, nI_clamp h]
theorem pq_ixi {c : Int32} {N : Nat} (m s k : Nat) (h : m * s + k < N) (hN : N < 2 ^ 31 := by omega) (hc : c = nI m := by rfl) : vp_in (c * nI s + nI k) N := by
  rw [pq_ix m s k hc]
  exact vp_in_nI h hN
theorem pq_ixi1 {c : Int32} {N : Nat} (m s k : Nat) (h : m * s + k + 1 < N) (hN : N < 2 ^ 31 := by omega) (hc : c = nI m := by rfl) : vp_in (c * nI s + nI k + 1) N := by
  rw [pq_ix1 m s k hc]
  exact vp_in_nI h hN
/-! array functions: shifted begins, moved up by one, moved down by a gap -/
def pq_sh (a : Nat → Int32) (lo hi : Nat) (x : Int32) : Nat → Int32 := fun j => if lo ≤ j ∧ j < hi then a j + x else a j
def pq_mv (a : Nat → Int32) (i N : Nat) : Nat → Int32 := fun j => if i < j ∧ j ≤ N then a (j - 1) else a j
def pq_rm (a : Nat → Int32) (t g i : Nat) : Nat → Int32 := fun j => if t ≤ j ∧ j + g < i then a (j + g) else a j
theorem pq_sh0 (a : Nat → Int32) (i : Nat) (x : Int32) : pq_sh a i i x = a := by
  funext j
  unfold pq_sh
  rw [if_neg (by omega)]
theorem pq_sh1 (a : Nat → Int32) {lo i : Nat} (x : Int32) (h : lo ≤ i) : upd (pq_sh a lo i x) i (pq_sh a lo i x i + x) = pq_sh a lo (i + 1) x := by
  funext j
  by_cases e : j = i
  · subst e
    rw [pk_us]
    unfold pq_sh
    rw [if_neg (by omega), if_pos (by omega)]
  · rw [pk_un e]
    unfold pq_sh
    by_cases z : lo ≤ j ∧ j < i
    · rw [if_pos z, if_pos (by omega)]
    · rw [if_neg z, if_neg (by omega)]
theorem pq_mv0 (a : Nat → Int32) (N : Nat) : pq_mv a N N = a := by
  funext j
  unfold pq_mv
  rw [if_neg (by omega)]
theorem pq_mv1 (a : Nat → Int32) {i N : Nat} (h : i + 1 ≤ N) : upd (pq_mv a (i + 1) N) (i + 1) (pq_mv a (i + 1) N i) = pq_mv a i N := by
  funext j
  by_cases e : j = i + 1
  · subst e
    rw [pk_us]
    unfold pq_mv
    rw [if_neg (by omega), if_pos (by omega)]
    rfl
  · rw [pk_un e]
    unfold pq_mv
    by_cases z : i < j ∧ j ≤ N
    · rw [if_pos z, if_pos (by omega)]
    · rw [if_neg z, if_neg (by omega)]
theorem pq_rm0 (a : Nat → Int32) (t g : Nat) : pq_rm a t g (t + g) = a := by
  funext j
  unfold pq_rm
  rw [if_neg (by omega)]
theorem pq_rm1 (a : Nat → Int32) {t g i : Nat} (h : t + g ≤ i) : upd (pq_rm a t g i) (i - g) (pq_rm a t g i i) = pq_rm a t g (i + 1) := by
  funext j
  by_cases e : j = i - g
  · subst e
    rw [pk_us]
    unfold pq_rm
    rw [if_neg (by omega), if_pos (by omega)]
    congr 1
    omega
  · rw [pk_un e]
    unfold pq_rm
    by_cases z : t ≤ j ∧ j + g < i
    · rw [if_pos z, if_pos (by omega)]
    · rw [if_neg z, if_neg (by omega)]
theorem pq_shi {a : Nat → Int32} {lo hi j : Nat} {x : Int32} (h : lo ≤ j) (h2 : j < hi) : pq_sh a lo hi x j = a j + x := by
  unfold pq_sh
  rw [if_pos ⟨h, h2⟩]
theorem pq_sho {a : Nat → Int32} {lo hi j : Nat} {x : Int32} (h : j < lo ∨ hi ≤ j) : pq_sh a lo hi x j = a j := by
  unfold pq_sh
  rw [if_neg (by omega)]
/-- a place put in at p, what stood from p to N moved up -/
def pq_pt (a : Nat → Int32) (p N : Nat) (x : Int32) : Nat → Int32 := upd (pq_mv a p N) p x
theorem pq_pt_lo {a : Nat → Int32} {p N j : Nat} {x : Int32} (h : j < p) : pq_pt a p N x j = a j := by
  unfold pq_pt
  rw [pk_un (by omega)]
  unfold pq_mv
  rw [if_neg (by omega)]
theorem pq_pt_at {a : Nat → Int32} {p N : Nat} {x : Int32} : pq_pt a p N x p = x := pk_us
theorem pq_pt_in {a : Nat → Int32} {p N j : Nat} {x : Int32} (h : p < j) (h2 : j ≤ N) : pq_pt a p N x j = a (j - 1) := by
  unfold pq_pt
  rw [pk_un (by omega)]
  unfold pq_mv
  rw [if_pos ⟨h, h2⟩]
theorem pq_pt_hi {a : Nat → Int32} {p N j : Nat} {x : Int32} (hp : p ≤ N) (h : N < j) : pq_pt a p N x j = a j := by
  unfold pq_pt
  rw [pk_un (by omega)]
  unfold pq_mv
  rw [if_neg (by omega)]
theorem pq_rmi {a : Nat → Int32} {t g i j : Nat} (h : t ≤ j) (h2 : j + g < i) : pq_rm a t g i j = a (j + g) := by
  unfold pq_rm
  rw [if_pos ⟨h, h2⟩]
theorem pq_rmo {a : Nat → Int32} {t g i j : Nat} (h : j < t ∨ i ≤ j + g) : pq_rm a t g i j = a j := by
  unfold pq_rm
  rw [if_neg (by omega)]
end
section
section
variable {o ll hh : Int32} {a1 a2 a3 a4 a5 a6 a7 a8 a9 a10 a11 : Nat → Int32}
theorem pq_isStream {post : Int32 → Prop} {s : Nat} (hs : s < 2) (H : post 1) : wpX_isStream post () (nI s) :=
  pk_eq s 0 (fun _ => H) (fun z => pk_eq s 1 (fun _ => H) (fun z2 => absurd z2 (by omega)))
theorem pq_isKey {post : Int32 → Prop} {k : Nat} (hk : k < 16) (H : post 1) : wpX_isKey post () (nI k) :=
  pk_lt k 0 (fun z => absurd z (by omega)) (fun _ => pk_le 16 k (fun z => absurd z (by omega)) (fun _ => H))
theorem pq_countOf {post : Int32 → Prop} {s k b e : Nat} (hs : s < 2) (hk : k < 16) (hb : a4 (17 * s + k) = nI b) (he : a4 (17 * s + k + 1) = nI e) (hbe : b ≤ e) (H : post (nI (e - b))) : wpX_countOf post (o, ll, hh, a1, a2, a3, a4, a5, a6, a7, a8, a9, a10, a11) (nI s) (nI k) := by
  refine ⟨pq_ixi1 17 s k (by omega), pq_ixi 17 s k (by omega), ?_⟩
  rw [pq_ixc1 17 s k (by omega), pq_ixc 17 s k (by omega), hb, he, pk_sub hbe]
  exact H
theorem pq_place41 {post : Int32 → Prop} {V : Nat → Int} {v : Int} {b e s : Nat} (hs : s < 2) (he : e ≤ 40)
    (hV : ∀ i, b ≤ i → i < e → a2 (40 * s + i) = pq_z (V i) ∧ -50 ≤ V i ∧ V i ≤ 50)
    (hso : ∀ i j, b ≤ i → i ≤ j → j < e → V i ≤ V j)
    (hv1 : -10000 ≤ v) (hv2 : v ≤ 10000)
    (H : ∀ p, b ≤ p → p ≤ e → (∀ i, b ≤ i → i < p → V i < v) → (∀ i, p ≤ i → i < e → v ≤ V i) → post (nI (40 * s + p))) :
    ∀ d f t, d ≤ 8 → b ≤ f → f ≤ t → t ≤ e → t - f < 2 ^ d → (∀ i, b ≤ i → i < f → V i < v) → (∀ i, t ≤ i → i < e → v ≤ V i) →
      wX_place_41 post (pq_z v) o ll hh a1 a2 a3 a4 a5 a6 a7 a8 a9 a10 a11 (d + 1) (nI (40 * s + f)) (nI (40 * s + t)) (nI (8 - d)) := by
  intro d
  induction d with
  | zero =>
    intro f t _ hf hft ht hd h1 h2
    have hd' : t - f < 1 := hd
    exact pk_le 8 (8 - 0) (fun _ => H f hf (by omega) h1 (fun i hi => h2 i (by omega))) (fun z => absurd z (by omega))
  | succ d ih =>
    intro f t hd8 hf hft ht hd h1 h2
    have hp : 2 ^ (d + 1) = 2 * 2 ^ d := by rw [Nat.pow_succ]; omega
    refine pk_le 8 (8 - (d + 1)) (fun z => absurd z (by omega)) (fun _ => ?_)
    refine pk_le (40 * s + t) (40 * s + f) (fun z => H f hf (by omega) h1 (fun i hi => h2 i (by omega))) (fun z => ?_)
    have hm : (nI (40 * s + f) + nI (40 * s + t)) >>> ((1 : Int32) &&& 31) = nI (40 * s + (f + t) / 2) := by
      rw [nI_add, pk_shrN (by omega) _ 1 (by decide)]
      congr 1
      omega
    have e8 : nI (8 - (d + 1)) + 1 = nI (8 - d) := by
      rw [nI_1]
      congr 1
      omega
    refine nm_r hm ⟨pk_in (40 * s + (f + t) / 2) 80 (by omega), ?_⟩
    obtain ⟨hv, hr1, hr2⟩ := hV ((f + t) / 2) (by omega) (by omega)
    rw [nI_clamp (by omega), hv]
    refine pq_ble v (V ((f + t) / 2)) (fun z3 => ?_) (fun z3 => ?_) ⟨by omega, by omega⟩ ⟨by omega, by omega⟩
    · exact nm_r e8 (ih f ((f + t) / 2) (by omega) hf (by omega) (by omega) (by omega) h1 (fun i hi hi2 => Int.le_trans z3 (hso _ i (by omega) hi hi2)))
    · exact nm_r (nI_1 _) (nm_r e8 (ih ((f + t) / 2 + 1) t (by omega) (by omega) (by omega) ht (by omega) (fun i hi hi2 => Int.lt_of_le_of_lt (hso i _ hi (by omega) (by omega)) z3) h2))
theorem pq_place {post : Int32 → Prop} {V : Nat → Int} {v : Int} {b e s k : Nat} (hs : s < 2) (hk : k < 16) (hb : a4 (17 * s + k) = nI b) (hee : a4 (17 * s + k + 1) = nI e) (hbe : b ≤ e) (he : e ≤ 40)
    (hV : ∀ i, b ≤ i → i < e → a2 (40 * s + i) = pq_z (V i) ∧ -50 ≤ V i ∧ V i ≤ 50)
    (hso : ∀ i j, b ≤ i → i ≤ j → j < e → V i ≤ V j)
    (hv1 : -10000 ≤ v) (hv2 : v ≤ 10000)
    (H : ∀ p, b ≤ p → p ≤ e → (∀ i, b ≤ i → i < p → V i < v) → (∀ i, p ≤ i → i < e → v ≤ V i) → post (nI (40 * s + p))) :
    wpX_place post (o, ll, hh, a1, a2, a3, a4, a5, a6, a7, a8, a9, a10, a11) (nI s) (nI k) (pq_z v) := by
  refine ⟨pq_ixi 17 s k (by omega), nm_r (e' := nI (40 * s + b)) ?_ ⟨pq_ixi1 17 s k (by omega), nm_r (e' := nI (40 * s + e)) ?_ ⟨9, ?_⟩⟩⟩
  · rw [pq_ixc 17 s k (by omega), hb]
    exact pq_ix 40 s b
  · rw [pq_ixc1 17 s k (by omega), hee]
    exact pq_ix 40 s e
  · exact pq_place41 hs he hV hso hv1 hv2 H 8 b e (by omega) (by omega) hbe (by omega) (by omega) (fun i hi hi2 => absurd hi2 (by omega)) (fun i hi hi2 => absurd hi2 (by omega))
theorem pq_shiftBegins {post : St2 → Prop} {s k : Nat} {x : Int32} (hs : s < 2) (hk : k < 16) (H : post (o, ll, hh, a1, a2, a3, pq_sh a4 (17 * s + k + 1) (17 * s + 17) x, a5, a6, a7, a8, a9, a10, a11)) :
    wpX_shiftBegins post (o, ll, hh, a1, a2, a3, a4, a5, a6, a7, a8, a9, a10, a11) (nI s) (nI k) x := by
  refine nm_r (nI_1 k) ?_
  refine pk_loop (σ := Nat → Int32) (fun n i g => wX_shiftBegins_5 post (nI s) x o ll hh n (nI i) a1 a2 a3 g a5 a6 a7 a8 a9 a10 a11) (fun i g => k + 1 ≤ i ∧ g = pq_sh a4 (17 * s + k + 1) (17 * s + i) x) 17 (k + 1) a4 (by omega) ?_ ?_ ?_
  · exact ⟨Nat.le_refl _, (pq_sh0 a4 _ x).symm⟩
  · intro n g hg
    obtain ⟨_, hg⟩ := hg
    subst hg
    exact pk_lt 16 17 (fun _ => H) (fun z => absurd z (by omega))
  · intro n i g hi hg hw
    obtain ⟨hki, hg⟩ := hg
    have e1 : upd g ((17 : Int32) * nI s + nI i).toNatClampNeg (g ((17 : Int32) * nI s + nI i).toNatClampNeg + x) = pq_sh a4 (17 * s + k + 1) (17 * s + (i + 1)) x := by
      rw [pq_ixc 17 s i (by omega), hg]
      exact pq_sh1 a4 x (by omega)
    exact pk_lt 16 i (fun z => absurd z (by omega)) (fun _ => ⟨pq_ixi 17 s i (by omega), pq_ixi 17 s i (by omega), nm_r e1 (nm_r (nI_1 i) (hw _ ⟨by omega, rfl⟩))⟩)
theorem pq_feed91 {post : Int32 → St2 → Prop} {s k p N : Nat} {x : Int32} (hs : s < 2) (hk : k < 16) (hN : N < 80)
    (H : post (a3 s + 1) (o, ll, hh, pq_pt a1 p N (nI k), pq_pt a2 p N x, upd a3 s (a3 s + 1), pq_sh a4 (17 * s + k + 1) (17 * s + 17) 1, upd a5 (16 * s + k) (a5 (16 * s + k) + x), a6, a7, a8, a9, a10, a11)) :
    ∀ d, p + d ≤ N → wX_feed_91 post (nI s) (nI k) x (nI p) o ll hh (d + 1) (nI (p + d)) (pq_mv a1 (p + d) N) (pq_mv a2 (p + d) N) a3 a4 a5 a6 a7 a8 a9 a10 a11 := by
  intro d
  induction d with
  | zero =>
    intro hd
    have e1 : upd (pq_mv a1 p N) (nI p).toNatClampNeg (nI k) = pq_pt a1 p N (nI k) := by
      rw [nI_clamp (by omega)]
      rfl
    have e2 : upd (pq_mv a2 p N) (nI p).toNatClampNeg x = pq_pt a2 p N x := by
      rw [nI_clamp (by omega)]
      rfl
    have e3 : upd a3 (nI s).toNatClampNeg (a3 (nI s).toNatClampNeg + 1) = upd a3 s (a3 s + 1) := by
      rw [nI_clamp (by omega)]
    have e5 : upd a5 ((16 : Int32) * nI s + nI k).toNatClampNeg (a5 ((16 : Int32) * nI s + nI k).toNatClampNeg + x) = upd a5 (16 * s + k) (a5 (16 * s + k) + x) := by
      rw [pq_ixc 16 s k (by omega)]
    have H' : post (upd a3 s (a3 s + 1) (nI s).toNatClampNeg) (o, ll, hh, pq_pt a1 p N (nI k), pq_pt a2 p N x, upd a3 s (a3 s + 1), pq_sh a4 (17 * s + k + 1) (17 * s + 17) 1, upd a5 (16 * s + k) (a5 (16 * s + k) + x), a6, a7, a8, a9, a10, a11) := by
      rw [nI_clamp (by omega), pk_us]
      exact H
    have hin : vp_in (nI s) 2 := vp_in_nI hs (by omega)
    exact pk_le p p (fun _ => ⟨pk_in p 80 (by omega), nm_r e1 ⟨pk_in p 80 (by omega), nm_r e2 ⟨hin, hin, nm_r e3 ⟨pq_ixi 16 s k (by omega), pq_ixi 16 s k (by omega), nm_r e5 (pq_shiftBegins hs hk ⟨hin, H'⟩)⟩⟩⟩⟩) (fun z => absurd z (by omega))
  | succ d ih =>
    intro hd
    have f1 : nI (p + (d + 1)) - 1 = nI (p + d) := nI_pred (p + d)
    have c1 : (nI (p + (d + 1)) - 1).toNatClampNeg = p + d := by rw [f1, nI_clamp (by omega)]
    have c2 : (nI (p + (d + 1))).toNatClampNeg = p + d + 1 := nI_clamp (by omega)
    have i1 : vp_in (nI (p + (d + 1)) - 1) 80 := by
      rw [f1]
      exact vp_in_nI (by omega) (by omega)
    have i2 : vp_in (nI (p + (d + 1))) 80 := vp_in_nI (by omega) (by omega)
    have e1 : upd (pq_mv a1 (p + (d + 1)) N) (nI (p + (d + 1))).toNatClampNeg (pq_mv a1 (p + (d + 1)) N (nI (p + (d + 1)) - 1).toNatClampNeg) = pq_mv a1 (p + d) N := by
      rw [c1, c2]
      exact pq_mv1 a1 (by omega)
    have e2 : upd (pq_mv a2 (p + (d + 1)) N) (nI (p + (d + 1))).toNatClampNeg (pq_mv a2 (p + (d + 1)) N (nI (p + (d + 1)) - 1).toNatClampNeg) = pq_mv a2 (p + d) N := by
      rw [c1, c2]
      exact pq_mv1 a2 (by omega)
    exact pk_le (p + (d + 1)) p (fun z => absurd z (by omega)) (fun _ => ⟨i1, i2, nm_r e1 ⟨i1, i2, nm_r e2 (nm_r (pk_m1 (p + d)) (ih (by omega)))⟩⟩)
theorem pq_drop35 {post : St2 → Prop} {s k t g N : Nat} (hs : s < 2) (hk : k < 16) (hN : 40 * s + N < 80) (htg : t + g ≤ 40 * s + N) (h3 : a3 s = nI N) (hg : g ≤ N)
    (H : post (o, ll, hh, pq_rm a1 t g (40 * s + N), pq_rm a2 t g (40 * s + N), upd a3 s (nI (N - g)), pq_sh a4 (17 * s + k + 1) (17 * s + 17) (-nI g), upd a5 (16 * s + k) 0, a6, a7, a8, a9, a10, a11)) :
    ∃ n, wX_drop_35 post (nI s) (nI k) (nI g) (nI (40 * s)) o ll hh n (nI (t + g)) a1 a2 a3 a4 a5 a6 a7 a8 a9 a10 a11 := by
  have hin : vp_in (nI s) 2 := vp_in_nI hs (by omega)
  have e0 : nI (40 * s) + a3 (nI s).toNatClampNeg = nI (40 * s + N) := by
    rw [nI_clamp (by omega), h3, nI_add]
  refine pk_loop (σ := (Nat → Int32) × (Nat → Int32)) (fun n i q => wX_drop_35 post (nI s) (nI k) (nI g) (nI (40 * s)) o ll hh n (nI i) q.1 q.2 a3 a4 a5 a6 a7 a8 a9 a10 a11) (fun i q => t + g ≤ i ∧ q.1 = pq_rm a1 t g i ∧ q.2 = pq_rm a2 t g i) (40 * s + N) (t + g) (a1, a2) htg ?_ ?_ ?_
  · exact ⟨Nat.le_refl _, (pq_rm0 a1 t g).symm, (pq_rm0 a2 t g).symm⟩
  · rintro n ⟨q1, q2⟩ ⟨_, r1, r2⟩
    have r1' : q1 = pq_rm a1 t g (40 * s + N) := r1
    have r2' : q2 = pq_rm a2 t g (40 * s + N) := r2
    subst r1'
    subst r2'
    have e3 : upd a3 (nI s).toNatClampNeg (a3 (nI s).toNatClampNeg - nI g) = upd a3 s (nI (N - g)) := by
      rw [nI_clamp (by omega), h3, pk_sub hg]
    have e5 : upd a5 ((16 : Int32) * nI s + nI k).toNatClampNeg 0 = upd a5 (16 * s + k) 0 := by
      rw [pq_ixc 16 s k (by omega)]
    exact ⟨hin, pk_le (40 * s + N) (40 * s + N) (fun _ => ⟨hin, hin, nm_r e3 ⟨pq_ixi 16 s k (by omega), nm_r e5 (pq_shiftBegins hs hk H)⟩⟩) (fun z => absurd z (by omega)) (hx := e0)⟩
  · rintro n i ⟨q1, q2⟩ hi ⟨htg2, r1, r2⟩ hw
    have r1' : q1 = pq_rm a1 t g i := r1
    have r2' : q2 = pq_rm a2 t g i := r2
    subst r1'
    subst r2'
    have f1 : nI i - nI g = nI (i - g) := pk_sub (by omega)
    have c1 : (nI i - nI g).toNatClampNeg = i - g := by rw [f1, nI_clamp (by omega)]
    have c2 : (nI i).toNatClampNeg = i := nI_clamp (by omega)
    have i1 : vp_in (nI i - nI g) 80 := by
      rw [f1]
      exact vp_in_nI (by omega) (by omega)
    have i2 : vp_in (nI i) 80 := vp_in_nI (by omega) (by omega)
    have e1 : upd (pq_rm a1 t g i) (nI i - nI g).toNatClampNeg (pq_rm a1 t g i (nI i).toNatClampNeg) = pq_rm a1 t g (i + 1) := by
      rw [c1, c2]
      exact pq_rm1 a1 (by omega)
    have e2 : upd (pq_rm a2 t g i) (nI i - nI g).toNatClampNeg (pq_rm a2 t g i (nI i).toNatClampNeg) = pq_rm a2 t g (i + 1) := by
      rw [c1, c2]
      exact pq_rm1 a2 (by omega)
    exact ⟨hin, pk_le (40 * s + N) i (fun z => absurd z (by omega)) (fun _ => ⟨i2, i1, nm_r e1 ⟨i2, i1, nm_r e2 (nm_r (nI_1 i) (hw (pq_rm a1 t g (i + 1), pq_rm a2 t g (i + 1)) ⟨by omega, rfl, rfl⟩))⟩⟩) (hx := e0)⟩
theorem pq_spread {post : St2 → Prop} {l h p : Int} (hl : pq_r l) (hhr : pq_r h) (hp : pq_r p) (H : post (o, pq_z (min l p), pq_z (max h p), a1, a2, a3, a4, a5, a6, a7, a8, a9, a10, a11)) :
    wpX_spread post (o, pq_z l, pq_z h, a1, a2, a3, a4, a5, a6, a7, a8, a9, a10, a11) (pq_z p) := by
  refine pq_ble l p (fun z => ?_) (fun z => ?_) hl hp
  · refine pq_ble p h (fun z2 => ?_) (fun z2 => ?_) hp hhr
    · rw [show min l p = l by omega, show max h p = h by omega] at H
      exact H
    · rw [show min l p = l by omega, show max h p = p by omega] at H
      exact H
  · refine pq_ble p h (fun z2 => ?_) (fun z2 => ?_) hp hhr
    · rw [show min l p = p by omega, show max h p = h by omega] at H
      exact H
    · rw [show min l p = p by omega, show max h p = p by omega] at H
      exact H
end
end
section
/-! lists of ints: put in, sorted, counted -/
theorem pq_gi (v : Int) : ∀ (l : List Int) (p i : Nat), p ≤ l.length → (l.take p ++ v :: l.drop p).getD i 0 = if i < p then l.getD i 0 else if i = p then v else l.getD (i - 1) 0 := by
  intro l
  induction l with
  | nil =>
    intro p i hp
    have hp0 : p = 0 := by
      have : p ≤ 0 := hp
      omega
    subst hp0
    cases i with
    | zero => simp
    | succ i => simp
  | cons a l ih =>
    intro p i hp
    cases p with
    | zero =>
      cases i with
      | zero => simp
      | succ i => simp
    | succ p =>
      cases i with
      | zero => simp
      | succ i =>
        have hp' : p ≤ l.length := by
          have : p + 1 ≤ l.length + 1 := hp
          omega
        have e := ih p i hp'
        simp only [List.take_succ_cons, List.drop_succ_cons, List.cons_append, List.getD_cons_succ]
        rw [e]
        by_cases h1 : i < p
        · rw [if_pos h1, if_pos (show i + 1 < p + 1 by omega)]
        · rw [if_neg h1, if_neg (show ¬ i + 1 < p + 1 by omega)]
          by_cases h2 : i = p
          · rw [if_pos h2, if_pos (show i + 1 = p + 1 by omega)]
          · rw [if_neg h2, if_neg (show ¬ i + 1 = p + 1 by omega)]
            obtain ⟨j, rfl⟩ : ∃ j, i = j + 1 := ⟨i - 1, by omega⟩
            simp
theorem pq_li (v : Int) {l : List Int} {p : Nat} (hp : p ≤ l.length) : (l.take p ++ v :: l.drop p).length = l.length + 1 := by
  simp only [List.length_append, List.length_take, List.length_cons, List.length_drop]
  omega
theorem pq_pi (v : Int) (l : List Int) (p : Nat) : (l.take p ++ v :: l.drop p).Perm (v :: l) := by
  have h : (l.take p ++ v :: l.drop p).Perm (v :: (l.take p ++ l.drop p)) := List.perm_middle
  rw [List.take_append_drop] at h
  exact h
def pq_so (l : List Int) : Prop := ∀ i j, i ≤ j → j < l.length → l.getD i 0 ≤ l.getD j 0
theorem pq_soi {l : List Int} {v : Int} {p : Nat} (hp : p ≤ l.length) (h : pq_so l) (h1 : ∀ i, i < p → l.getD i 0 < v) (h2 : ∀ i, p ≤ i → i < l.length → v ≤ l.getD i 0) : pq_so (l.take p ++ v :: l.drop p) := by
  intro i j hij hj
  rw [pq_li v hp] at hj
  rw [pq_gi v l p i hp, pq_gi v l p j hp]
  by_cases a : i < p
  · rw [if_pos a]
    by_cases b : j < p
    · rw [if_pos b]
      exact h i j hij (by omega)
    · rw [if_neg b]
      by_cases c : j = p
      · rw [if_pos c]
        exact Int.le_of_lt (h1 i a)
      · rw [if_neg c]
        exact h i (j - 1) (by omega) (by omega)
  · rw [if_neg a, if_neg (show ¬ j < p by omega)]
    by_cases c : i = p
    · rw [if_pos c]
      by_cases d : j = p
      · rw [if_pos d]
        exact Int.le_refl v
      · rw [if_neg d]
        exact h2 (j - 1) (by omega) (by omega)
    · rw [if_neg c, if_neg (show ¬ j = p by omega)]
      exact h (i - 1) (j - 1) (by omega) (by omega)
theorem pq_sum_perm {l m : List Int} (h : l.Perm m) : l.sum = m.sum := by
  induction h with
  | nil => rfl
  | cons x _ ih => rw [List.sum_cons, List.sum_cons, ih]
  | swap x y l =>
    simp only [List.sum_cons]
    omega
  | trans _ _ i1 i2 => exact i1.trans i2
theorem pq_nsum_perm {l m : List Nat} (h : l.Perm m) : l.sum = m.sum := by
  induction h with
  | nil => rfl
  | cons x _ ih => rw [List.sum_cons, List.sum_cons, ih]
  | swap x y l =>
    simp only [List.sum_cons]
    omega
  | trans _ _ i1 i2 => exact i1.trans i2
theorem pq_gm {l : List Int} {i : Nat} (h : i < l.length) : l.getD i 0 ∈ l := by
  rw [List.getD_eq_getElem?_getD, List.getElem?_eq_getElem h]
  exact List.getElem_mem h
theorem pq_mg {l : List Int} {x : Int} (h : x ∈ l) : ∃ i, i < l.length ∧ l.getD i 0 = x := by
  obtain ⟨i, hi, e⟩ := List.getElem_of_mem h
  refine ⟨i, hi, ?_⟩
  rw [List.getD_eq_getElem?_getD, List.getElem?_eq_getElem hi]
  exact e
theorem pq_cntA {f : Int → Bool} {v : Int} : ∀ (l : List Int) (p : Nat), p ≤ l.length → (∀ i, i < p → l.getD i 0 < v) → (∀ i, p ≤ i → i < l.length → v ≤ l.getD i 0) → (∀ y, y ∈ l → (f y = true ↔ v ≤ y)) → l.countP f = l.length - p := by
  intro l
  induction l with
  | nil =>
    intro p hp _ _ _
    simp
  | cons a l ih =>
    intro p hp h1 h2 hf
    have hf' : ∀ y, y ∈ l → (f y = true ↔ v ≤ y) := fun y hy => hf y (List.mem_cons_of_mem _ hy)
    cases p with
    | zero =>
      have e := ih 0 (Nat.zero_le _) (fun i hi => absurd hi (by omega)) (fun i _ hi => by
        have := h2 (i + 1) (by omega) (by simpa using hi)
        rw [List.getD_cons_succ] at this
        exact this) hf'
      have h0 := h2 0 (by omega) (by simp)
      rw [List.getD_cons_zero] at h0
      have ha : f a = true := (hf a List.mem_cons_self).mpr h0
      rw [List.countP_cons_of_pos ha, e]
      simp
    | succ p =>
      have hp' : p ≤ l.length := by
        have : p + 1 ≤ l.length + 1 := hp
        omega
      have e := ih p hp' (fun i hi => by
        have := h1 (i + 1) (by omega)
        rw [List.getD_cons_succ] at this
        exact this) (fun i hi hi2 => by
        have := h2 (i + 1) (by omega) (by simpa using hi2)
        rw [List.getD_cons_succ] at this
        exact this) hf'
      have h0 := h1 0 (by omega)
      rw [List.getD_cons_zero] at h0
      have ha : ¬ f a = true := fun z => by
        have := (hf a List.mem_cons_self).mp z
        omega
      rw [List.countP_cons_of_neg ha, e, List.length_cons]
      omega
theorem pq_cntB {f : Int → Bool} {v : Int} : ∀ (l : List Int) (p : Nat), p ≤ l.length → (∀ i, i < p → l.getD i 0 < v) → (∀ i, p ≤ i → i < l.length → v ≤ l.getD i 0) → (∀ y, y ∈ l → (f y = true ↔ y < v)) → l.countP f = p := by
  intro l
  induction l with
  | nil =>
    intro p hp _ _ _
    have : p ≤ 0 := hp
    simp
    omega
  | cons a l ih =>
    intro p hp h1 h2 hf
    have hf' : ∀ y, y ∈ l → (f y = true ↔ y < v) := fun y hy => hf y (List.mem_cons_of_mem _ hy)
    cases p with
    | zero =>
      have e := ih 0 (Nat.zero_le _) (fun i hi => absurd hi (by omega)) (fun i _ hi => by
        have := h2 (i + 1) (by omega) (by simpa using hi)
        rw [List.getD_cons_succ] at this
        exact this) hf'
      have h0 := h2 0 (by omega) (by simp)
      rw [List.getD_cons_zero] at h0
      have ha : ¬ f a = true := fun z => by
        have := (hf a List.mem_cons_self).mp z
        omega
      rw [List.countP_cons_of_neg ha, e]
    | succ p =>
      have hp' : p ≤ l.length := by
        have : p + 1 ≤ l.length + 1 := hp
        omega
      have e := ih p hp' (fun i hi => by
        have := h1 (i + 1) (by omega)
        rw [List.getD_cons_succ] at this
        exact this) (fun i hi hi2 => by
        have := h2 (i + 1) (by omega) (by simpa using hi2)
        rw [List.getD_cons_succ] at this
        exact this) hf'
      have h0 := h1 0 (by omega)
      rw [List.getD_cons_zero] at h0
      have ha : f a = true := (hf a List.mem_cons_self).mpr h0
      rw [List.countP_cons_of_pos ha, e]
/-! extremes of products -/
theorem pq_btw {a b x : Int} (t : Int) (h1 : a ≤ x) (h2 : x ≤ b) : (a * t ≤ x * t ∨ b * t ≤ x * t) ∧ (x * t ≤ a * t ∨ x * t ≤ b * t) := by
  rcases Int.le_total 0 t with h | h
  · exact ⟨Or.inl (Int.mul_le_mul_of_nonneg_right h1 h), Or.inr (Int.mul_le_mul_of_nonneg_right h2 h)⟩
  · exact ⟨Or.inr (Int.mul_le_mul_of_nonpos_right h2 h), Or.inl (Int.mul_le_mul_of_nonpos_right h1 h)⟩
theorem pq_corner {a b c d x y : Int} (h1 : a ≤ x) (h2 : x ≤ b) (h3 : c ≤ y) (h4 : y ≤ d) :
    min (min (min (a * c) (a * d)) (b * c)) (b * d) ≤ x * y ∧ x * y ≤ max (max (max (a * c) (a * d)) (b * c)) (b * d) := by
  have h := pq_btw y h1 h2
  have p := pq_btw a h3 h4
  have q := pq_btw b h3 h4
  rw [Int.mul_comm c a, Int.mul_comm d a, Int.mul_comm y a] at p
  rw [Int.mul_comm c b, Int.mul_comm d b, Int.mul_comm y b] at q
  generalize a * c = A at *
  generalize a * d = B at *
  generalize b * c = C at *
  generalize b * d = D at *
  generalize a * y = E at *
  generalize b * y = F at *
  generalize x * y = G at *
  omega
/-- bounds of a product of two small ints -/
theorem pq_small {x y : Int} (h1 : -50 ≤ x) (h2 : x ≤ 50) (h3 : -50 ≤ y) (h4 : y ≤ 50) : -2500 ≤ x * y ∧ x * y ≤ 2500 := by
  have h := pq_corner h1 h2 h3 h4
  omega
/-- least and greatest product of two lists' pairs -/
def pq_lz (L K : List Int) (z : Int) : Prop := (∀ x, x ∈ L → ∀ y, y ∈ K → z ≤ x * y) ∧ ((∃ x, x ∈ L ∧ ∃ y, y ∈ K ∧ z = x * y) ∨ ((∀ x, x ∈ L → ∀ y, y ∈ K → False) ∧ z = 10000))
def pq_gz (L K : List Int) (z : Int) : Prop := (∀ x, x ∈ L → ∀ y, y ∈ K → x * y ≤ z) ∧ ((∃ x, x ∈ L ∧ ∃ y, y ∈ K ∧ z = x * y) ∨ ((∀ x, x ∈ L → ∀ y, y ∈ K → False) ∧ z = -10000))
theorem pq_lz_u {L K L' K' : List Int} {z z' : Int} (hL : L.Perm L') (hK : K.Perm K') (h : pq_lz L K z) (h' : pq_lz L' K' z') : z = z' := by
  obtain ⟨h1, h2⟩ := h
  obtain ⟨g1, g2⟩ := h'
  rcases h2 with ⟨x, hx, y, hy, e⟩ | ⟨hn, e⟩
  · rcases g2 with ⟨x', hx', y', hy', e'⟩ | ⟨hn', e'⟩
    · have t1 := h1 x' (hL.mem_iff.mpr hx') y' (hK.mem_iff.mpr hy')
      have t2 := g1 x (hL.mem_iff.mp hx) y (hK.mem_iff.mp hy)
      omega
    · exact absurd (hn' x (hL.mem_iff.mp hx) y (hK.mem_iff.mp hy)) id
  · rcases g2 with ⟨x', hx', y', hy', e'⟩ | ⟨hn', e'⟩
    · exact absurd (hn x' (hL.mem_iff.mpr hx') y' (hK.mem_iff.mpr hy')) id
    · omega
theorem pq_gz_u {L K L' K' : List Int} {z z' : Int} (hL : L.Perm L') (hK : K.Perm K') (h : pq_gz L K z) (h' : pq_gz L' K' z') : z = z' := by
  obtain ⟨h1, h2⟩ := h
  obtain ⟨g1, g2⟩ := h'
  rcases h2 with ⟨x, hx, y, hy, e⟩ | ⟨hn, e⟩
  · rcases g2 with ⟨x', hx', y', hy', e'⟩ | ⟨hn', e'⟩
    · have t1 := h1 x' (hL.mem_iff.mpr hx') y' (hK.mem_iff.mpr hy')
      have t2 := g1 x (hL.mem_iff.mp hx) y (hK.mem_iff.mp hy)
      omega
    · exact absurd (hn' x (hL.mem_iff.mp hx) y (hK.mem_iff.mp hy)) id
  · rcases g2 with ⟨x', hx', y', hy', e'⟩ | ⟨hn', e'⟩
    · exact absurd (hn x' (hL.mem_iff.mpr hx') y' (hK.mem_iff.mpr hy')) id
    · omega
theorem pq_so_lo {l : List Int} {x : Int} (h : pq_so l) (hx : x ∈ l) : l.getD 0 0 ≤ x := by
  obtain ⟨i, hi, rfl⟩ := pq_mg hx
  exact h 0 i (by omega) hi
theorem pq_so_hi {l : List Int} {x : Int} (h : pq_so l) (hx : x ∈ l) : x ≤ l.getD (l.length - 1) 0 := by
  obtain ⟨i, hi, rfl⟩ := pq_mg hx
  exact h i (l.length - 1) (by omega) (by omega)
def pq_mn4 (a b c d : Int) : Int := min (min (min (a * c) (a * d)) (b * c)) (b * d)
def pq_mx4 (a b c d : Int) : Int := max (max (max (a * c) (a * d)) (b * c)) (b * d)
theorem pq_min4 (A B C D : Int) : min (min (min A B) C) D = A ∨ min (min (min A B) C) D = B ∨ min (min (min A B) C) D = C ∨ min (min (min A B) C) D = D := by omega
theorem pq_max4 (A B C D : Int) : max (max (max A B) C) D = A ∨ max (max (max A B) C) D = B ∨ max (max (max A B) C) D = C ∨ max (max (max A B) C) D = D := by omega
theorem pq_lz_s {L K : List Int} (hL : pq_so L) (hK : pq_so K) (h0 : 0 < L.length) (h1 : 0 < K.length) : pq_lz L K (pq_mn4 (L.getD 0 0) (L.getD (L.length - 1) 0) (K.getD 0 0) (K.getD (K.length - 1) 0)) := by
  refine ⟨fun x hx y hy => (pq_corner (pq_so_lo hL hx) (pq_so_hi hL hx) (pq_so_lo hK hy) (pq_so_hi hK hy)).1, Or.inl ?_⟩
  have a : L.getD 0 0 ∈ L := pq_gm h0
  have b : L.getD (L.length - 1) 0 ∈ L := pq_gm (by omega)
  have c : K.getD 0 0 ∈ K := pq_gm h1
  have d : K.getD (K.length - 1) 0 ∈ K := pq_gm (by omega)
  rcases pq_min4 (L.getD 0 0 * K.getD 0 0) (L.getD 0 0 * K.getD (K.length - 1) 0) (L.getD (L.length - 1) 0 * K.getD 0 0) (L.getD (L.length - 1) 0 * K.getD (K.length - 1) 0) with e | e | e | e
  · exact ⟨_, a, _, c, e⟩
  · exact ⟨_, a, _, d, e⟩
  · exact ⟨_, b, _, c, e⟩
  · exact ⟨_, b, _, d, e⟩
theorem pq_gz_s {L K : List Int} (hL : pq_so L) (hK : pq_so K) (h0 : 0 < L.length) (h1 : 0 < K.length) : pq_gz L K (pq_mx4 (L.getD 0 0) (L.getD (L.length - 1) 0) (K.getD 0 0) (K.getD (K.length - 1) 0)) := by
  refine ⟨fun x hx y hy => (pq_corner (pq_so_lo hL hx) (pq_so_hi hL hx) (pq_so_lo hK hy) (pq_so_hi hK hy)).2, Or.inl ?_⟩
  have a : L.getD 0 0 ∈ L := pq_gm h0
  have b : L.getD (L.length - 1) 0 ∈ L := pq_gm (by omega)
  have c : K.getD 0 0 ∈ K := pq_gm h1
  have d : K.getD (K.length - 1) 0 ∈ K := pq_gm (by omega)
  rcases pq_max4 (L.getD 0 0 * K.getD 0 0) (L.getD 0 0 * K.getD (K.length - 1) 0) (L.getD (L.length - 1) 0 * K.getD 0 0) (L.getD (L.length - 1) 0 * K.getD (K.length - 1) 0) with e | e | e | e
  · exact ⟨_, a, _, c, e⟩
  · exact ⟨_, a, _, d, e⟩
  · exact ⟨_, b, _, c, e⟩
  · exact ⟨_, b, _, d, e⟩
/-! division -/
theorem pq_dq {X q y r : Int} (hX : 0 < X) (hr0 : 0 ≤ r) (hr : r < X) : q ≤ y ↔ X * q + r - X + 1 ≤ X * y := by
  constructor
  · intro h
    have := Int.mul_le_mul_of_nonneg_left h (Int.le_of_lt hX)
    omega
  · intro h
    rcases Int.lt_or_le y q with z | z
    · have h2 : y ≤ q - 1 := by omega
      have h3 := Int.mul_le_mul_of_nonneg_left h2 (Int.le_of_lt hX)
      rw [Int.mul_sub, Int.mul_one] at h3
      omega
    · exact z
theorem pq_d1 {A X : Nat} (y : Int) (hX : 0 < X) : (((A + X - 1) / X : Nat) : Int) ≤ y ↔ (A : Int) ≤ (X : Int) * y := by
  have e := Int.mul_ediv_add_emod ((A + X - 1 : Nat) : Int) (X : Int)
  have r0 := Int.emod_nonneg ((A + X - 1 : Nat) : Int) (show (X : Int) ≠ 0 by omega)
  have r1 := Int.emod_lt_of_pos ((A + X - 1 : Nat) : Int) (show (0 : Int) < X by omega)
  rw [Int.natCast_ediv, pq_dq (X := (X : Int)) (by omega) r0 r1]
  have e2 : (X : Int) * (((A + X - 1 : Nat) : Int) / (X : Int)) + ((A + X - 1 : Nat) : Int) % (X : Int) - X + 1 = A := by
    rw [e]
    omega
  rw [e2]
theorem pq_d2 {A X : Nat} (y : Int) (hX : 0 < X) : -((A / X : Nat) : Int) ≤ y ↔ -(A : Int) ≤ (X : Int) * y := by
  have e := Int.mul_ediv_add_emod (A : Int) (X : Int)
  have r0 := Int.emod_nonneg (A : Int) (show (X : Int) ≠ 0 by omega)
  have r1 := Int.emod_lt_of_pos (A : Int) (show (0 : Int) < X by omega)
  rw [Int.natCast_ediv, pq_dq (X := (X : Int)) (r := (X : Int) - 1 - (A : Int) % (X : Int)) (by omega) (by omega) (by omega)]
  have e2 : (X : Int) * -((A : Int) / (X : Int)) + ((X : Int) - 1 - (A : Int) % (X : Int)) - X + 1 = -(A : Int) := by
    rw [Int.mul_neg]
    omega
  rw [e2]
end
section
/-! the picture of one stream: for every key a sorted list of ints; the lists stand one behind another -/
def pq_of (T : Nat → List Int) : Nat → Nat
  | 0 => 0
  | k + 1 => pq_of T k + (T k).length
def pq_up (T : Nat → List Int) (k : Nat) (l : List Int) : Nat → List Int := fun j => if j = k then l else T j
theorem pq_up_s {T : Nat → List Int} {k : Nat} {l : List Int} : pq_up T k l k = l := if_pos rfl
theorem pq_up_n {T : Nat → List Int} {k j : Nat} {l : List Int} (h : j ≠ k) : pq_up T k l j = T j := if_neg h
theorem pq_of_le (T : Nat → List Int) : ∀ {j k : Nat}, j ≤ k → pq_of T j ≤ pq_of T k := by
  intro j k
  induction k with
  | zero =>
    intro h
    have : j = 0 := by omega
    subst this
    exact Nat.le_refl _
  | succ k ih =>
    intro h
    by_cases e : j = k + 1
    · subst e
      exact Nat.le_refl _
    · have := ih (by omega)
      show pq_of T j ≤ pq_of T k + (T k).length
      omega
theorem pq_of_lt (T : Nat → List Int) {j k : Nat} (h : j < k) : pq_of T j + (T j).length ≤ pq_of T k := pq_of_le T (show j + 1 ≤ k from h)
theorem pq_of_up (T : Nat → List Int) (k : Nat) (l : List Int) : ∀ j, (j ≤ k → pq_of (pq_up T k l) j = pq_of T j) ∧ (k < j → pq_of (pq_up T k l) j + (T k).length = pq_of T j + l.length) := by
  intro j
  induction j with
  | zero => exact ⟨fun _ => rfl, fun h => absurd h (by omega)⟩
  | succ j ih =>
    obtain ⟨i1, i2⟩ := ih
    constructor
    · intro h
      show pq_of (pq_up T k l) j + (pq_up T k l j).length = pq_of T j + (T j).length
      rw [i1 (by omega), pq_up_n (by omega)]
    · intro h
      show pq_of (pq_up T k l) j + (pq_up T k l j).length + (T k).length = pq_of T j + (T j).length + l.length
      by_cases e : j = k
      · subst e
        rw [i1 (by omega), pq_up_s]
        omega
      · have := i2 (by omega)
        rw [pq_up_n e]
        omega
def pq_S (c s : Nat) (T : Nat → List Int) (a1 a2 a3 a4 a5 : Nat → Int32) : Prop :=
  pq_of T 16 ≤ c ∧ a3 s = nI (pq_of T 16) ∧ (∀ k, k ≤ 16 → a4 (17 * s + k) = nI (pq_of T k)) ∧
  (∀ k, k < 16 → ∀ i, i < (T k).length → a1 (40 * s + pq_of T k + i) = nI k ∧ a2 (40 * s + pq_of T k + i) = pq_z ((T k).getD i 0)) ∧
  (∀ k, k < 16 → a5 (16 * s + k) = pq_z (T k).sum) ∧ (∀ k, k < 16 → pq_so (T k)) ∧ (∀ k, k < 16 → ∀ v, v ∈ T k → -50 ≤ v ∧ v ≤ 50)
/-- what a stream's picture rests on -/
theorem pq_S_frame {c s : Nat} {T : Nat → List Int} {a1 a2 a3 a4 a5 b1 b2 b3 b4 b5 : Nat → Int32} (hc : c ≤ 40) (h : pq_S c s T a1 a2 a3 a4 a5)
    (h1 : ∀ j, 40 * s ≤ j → j < 40 * s + 40 → b1 j = a1 j) (h2 : ∀ j, 40 * s ≤ j → j < 40 * s + 40 → b2 j = a2 j) (h3 : b3 s = a3 s)
    (h4 : ∀ j, 17 * s ≤ j → j < 17 * s + 17 → b4 j = a4 j) (h5 : ∀ j, 16 * s ≤ j → j < 16 * s + 16 → b5 j = a5 j) : pq_S c s T b1 b2 b3 b4 b5 := by
  obtain ⟨k1, k2, k3, k4, k5, k6, k7⟩ := h
  refine ⟨k1, by rw [h3, k2], fun k hk => ?_, fun k hk i hi => ?_, fun k hk => ?_, k6, k7⟩
  · rw [h4 _ (by omega) (by omega)]
    exact k3 k hk
  · have := pq_of_lt T hk
    rw [h1 _ (by omega) (by omega), h2 _ (by omega) (by omega)]
    exact k4 k hk i hi
  · rw [h5 _ (by omega) (by omega)]
    exact k5 k hk
theorem pq_S_feed {c s k p : Nat} {v : Int} {T : Nat → List Int} {a1 a2 a3 a4 a5 : Nat → Int32} (hc : c ≤ 30) (hk : k < 16) (h : pq_S c s T a1 a2 a3 a4 a5) (hv1 : -50 ≤ v) (hv2 : v ≤ 50)
    (hp : p ≤ (T k).length) (hp1 : ∀ i, i < p → (T k).getD i 0 < v) (hp2 : ∀ i, p ≤ i → i < (T k).length → v ≤ (T k).getD i 0) :
    pq_S (c + 1) s (pq_up T k ((T k).take p ++ v :: (T k).drop p)) (pq_pt a1 (40 * s + pq_of T k + p) (40 * s + pq_of T 16) (nI k)) (pq_pt a2 (40 * s + pq_of T k + p) (40 * s + pq_of T 16) (pq_z v)) (upd a3 s (a3 s + 1)) (pq_sh a4 (17 * s + k + 1) (17 * s + 17) 1) (upd a5 (16 * s + k) (a5 (16 * s + k) + pq_z v)) := by
  obtain ⟨k1, k2, k3, k4, k5, k6, k7⟩ := h
  have hlen := pq_li v hp
  have hgi := fun i => pq_gi v (T k) p i hp
  have hpm := pq_pi v (T k) p
  have hso := pq_soi hp (k6 k hk) hp1 hp2
  generalize (T k).take p ++ v :: (T k).drop p = l at *
  have hof := pq_of_up T k l
  have h16 := (hof 16).2 hk
  rw [hlen] at h16
  have hlk := pq_of_lt T hk
  refine ⟨by omega, ?_, fun j hj => ?_, fun j hj i hi => ?_, fun j hj => ?_, fun j hj => ?_, fun j hj w hw => ?_⟩
  · rw [pk_us, k2, nI_1]
    congr 1
    omega
  · by_cases e : j ≤ k
    · rw [pq_sho (by omega), (hof j).1 e]
      exact k3 j hj
    · have hj2 := (hof j).2 (by omega)
      rw [hlen] at hj2
      rw [pq_shi (by omega) (by omega), k3 j hj, nI_1]
      congr 1
      omega
  · by_cases e : j = k
    · subst e
      rw [pq_up_s] at hi ⊢
      rw [hlen] at hi
      rw [(hof j).1 (Nat.le_refl _), hgi i]
      by_cases c1 : i < p
      · rw [pq_pt_lo (by omega), pq_pt_lo (by omega), if_pos c1]
        exact k4 j hj i (by omega)
      · by_cases c2 : i = p
        · subst c2
          rw [pq_pt_at, pq_pt_at, if_neg c1, if_pos rfl]
          exact ⟨rfl, rfl⟩
        · rw [pq_pt_in (by omega) (by omega), pq_pt_in (by omega) (by omega), if_neg c1, if_neg c2]
          have q := k4 j hj (i - 1) (by omega)
          rw [show 40 * s + pq_of T j + i - 1 = 40 * s + pq_of T j + (i - 1) by omega]
          exact q
    · rw [pq_up_n e] at hi ⊢
      have q := k4 j hj i hi
      by_cases c1 : j < k
      · have := pq_of_lt T c1
        rw [(hof j).1 (by omega), pq_pt_lo (by omega), pq_pt_lo (by omega)]
        exact q
      · have hj2 := (hof j).2 (by omega)
        rw [hlen] at hj2
        have t1 := pq_of_lt T (show k < j by omega)
        have t2 := pq_of_lt T hj
        rw [pq_pt_in (by omega) (by omega), pq_pt_in (by omega) (by omega)]
        rw [show 40 * s + pq_of (pq_up T k l) j + i - 1 = 40 * s + pq_of T j + i by omega]
        exact q
  · by_cases e : j = k
    · subst e
      rw [pk_us, pq_up_s, k5 j hj, pq_add, pq_sum_perm hpm, List.sum_cons, Int.add_comm]
    · rw [pk_un (by omega), pq_up_n e]
      exact k5 j hj
  · by_cases e : j = k
    · subst e
      rw [pq_up_s]
      exact hso
    · rw [pq_up_n e]
      exact k6 j hj
  · by_cases e : j = k
    · subst e
      rw [pq_up_s] at hw
      rcases List.mem_cons.mp (hpm.mem_iff.mp hw) with z | z
      · subst z
        exact ⟨hv1, hv2⟩
      · exact k7 j hj w z
    · rw [pq_up_n e] at hw
      exact k7 j hj w hw
theorem pq_S_drop {c s k : Nat} {T : Nat → List Int} {a1 a2 a3 a4 a5 : Nat → Int32} (hc : c ≤ 30) (hk : k < 16) (h : pq_S c s T a1 a2 a3 a4 a5) :
    pq_S c s (pq_up T k []) (pq_rm a1 (40 * s + pq_of T k) (T k).length (40 * s + pq_of T 16)) (pq_rm a2 (40 * s + pq_of T k) (T k).length (40 * s + pq_of T 16)) (upd a3 s (nI (pq_of T 16 - (T k).length))) (pq_sh a4 (17 * s + k + 1) (17 * s + 17) (-nI (T k).length)) (upd a5 (16 * s + k) 0) := by
  obtain ⟨k1, k2, k3, k4, k5, k6, k7⟩ := h
  have hof := pq_of_up T k []
  have h16 := (hof 16).2 hk
  have hlk := pq_of_lt T hk
  have hneg : ∀ m : Nat, (T k).length ≤ m → nI m + -nI (T k).length = nI (m - (T k).length) := by
    intro m hm
    rw [← pk_sub hm, Int32.sub_eq_add_neg]
  simp only [List.length_nil, Nat.add_zero] at hof h16
  refine ⟨by omega, ?_, fun j hj => ?_, fun j hj i hi => ?_, fun j hj => ?_, fun j hj => ?_, fun j hj w hw => ?_⟩
  · rw [pk_us]
    congr 1
    omega
  · by_cases e : j ≤ k
    · rw [pq_sho (by omega), (hof j).1 e]
      exact k3 j hj
    · have hj2 := (hof j).2 (by omega)
      rw [pq_shi (by omega) (by omega), k3 j hj, hneg _ (by omega)]
      congr 1
      omega
  · by_cases e : j = k
    · subst e
      rw [pq_up_s] at hi
      exact absurd hi (by simp)
    · rw [pq_up_n e] at hi ⊢
      have q := k4 j hj i hi
      by_cases c1 : j < k
      · have := pq_of_lt T c1
        rw [(hof j).1 (by omega), pq_rmo (by omega), pq_rmo (by omega)]
        exact q
      · have hj2 := (hof j).2 (by omega)
        have t1 := pq_of_lt T (show k < j by omega)
        have t2 := pq_of_lt T hj
        rw [pq_rmi (by omega) (by omega), pq_rmi (by omega) (by omega)]
        rw [show 40 * s + pq_of (pq_up T k []) j + i + (T k).length = 40 * s + pq_of T j + i by omega]
        exact q
  · by_cases e : j = k
    · subst e
      rw [pk_us, pq_up_s]
      rfl
    · rw [pk_un (by omega), pq_up_n e]
      exact k5 j hj
  · by_cases e : j = k
    · subst e
      rw [pq_up_s]
      intro i j _ hj
      exact absurd hj (by simp)
    · rw [pq_up_n e]
      exact k6 j hj
  · by_cases e : j = k
    · subst e
      rw [pq_up_s] at hw
      exact absurd hw (by simp)
    · rw [pq_up_n e] at hw
      exact k7 j hj w hw
/-! both streams -/
def pq_P (c : Nat) (T : Nat → Nat → List Int) (a1 a2 a3 a4 a5 : Nat → Int32) : Prop := ∀ s, s < 2 → pq_S c s (T s) a1 a2 a3 a4 a5
def pq_T (T : Nat → Nat → List Int) (s k : Nat) (l : List Int) : Nat → Nat → List Int := fun s' => if s' = s then pq_up (T s) k l else T s'
theorem pq_T_s {T : Nat → Nat → List Int} {s k : Nat} {l : List Int} : pq_T T s k l s = pq_up (T s) k l := if_pos rfl
theorem pq_T_n {T : Nat → Nat → List Int} {s k z : Nat} {l : List Int} (h : z ≠ s) : pq_T T s k l z = T z := if_neg h
theorem pq_S_mono {c d s : Nat} {T : Nat → List Int} {a1 a2 a3 a4 a5 : Nat → Int32} (h : pq_S c s T a1 a2 a3 a4 a5) (hd : c ≤ d) : pq_S d s T a1 a2 a3 a4 a5 := by
  obtain ⟨k1, k2⟩ := h
  exact ⟨Nat.le_trans k1 hd, k2⟩
theorem pq_P_feed {c s k p : Nat} {v : Int} {T : Nat → Nat → List Int} {a1 a2 a3 a4 a5 : Nat → Int32} (hc : c ≤ 30) (hs : s < 2) (hk : k < 16) (h : pq_P c T a1 a2 a3 a4 a5) (hv1 : -50 ≤ v) (hv2 : v ≤ 50)
    (hp : p ≤ (T s k).length) (hp1 : ∀ i, i < p → (T s k).getD i 0 < v) (hp2 : ∀ i, p ≤ i → i < (T s k).length → v ≤ (T s k).getD i 0) :
    pq_P (c + 1) (pq_T T s k ((T s k).take p ++ v :: (T s k).drop p)) (pq_pt a1 (40 * s + pq_of (T s) k + p) (40 * s + pq_of (T s) 16) (nI k)) (pq_pt a2 (40 * s + pq_of (T s) k + p) (40 * s + pq_of (T s) 16) (pq_z v)) (upd a3 s (a3 s + 1)) (pq_sh a4 (17 * s + k + 1) (17 * s + 17) 1) (upd a5 (16 * s + k) (a5 (16 * s + k) + pq_z v)) := by
  intro z hz
  by_cases e : z = s
  · subst e
    rw [pq_T_s]
    exact pq_S_feed hc hk (h z hz) hv1 hv2 hp hp1 hp2
  · rw [pq_T_n e]
    have hb := (h s hs).1
    have hl := pq_of_lt (T s) hk
    refine pq_S_frame (by omega) (pq_S_mono (h z hz) (by omega)) (fun j j1 j2 => ?_) (fun j j1 j2 => ?_) (pk_un e) (fun j j1 j2 => pq_sho (by omega)) (fun j j1 j2 => pk_un (by omega))
    · by_cases q : j < 40 * s + pq_of (T s) k + p
      · exact pq_pt_lo q
      · exact pq_pt_hi (by omega) (by omega)
    · by_cases q : j < 40 * s + pq_of (T s) k + p
      · exact pq_pt_lo q
      · exact pq_pt_hi (by omega) (by omega)
theorem pq_P_drop {c s k : Nat} {T : Nat → Nat → List Int} {a1 a2 a3 a4 a5 : Nat → Int32} (hc : c ≤ 30) (hs : s < 2) (hk : k < 16) (h : pq_P c T a1 a2 a3 a4 a5) :
    pq_P c (pq_T T s k []) (pq_rm a1 (40 * s + pq_of (T s) k) (T s k).length (40 * s + pq_of (T s) 16)) (pq_rm a2 (40 * s + pq_of (T s) k) (T s k).length (40 * s + pq_of (T s) 16)) (upd a3 s (nI (pq_of (T s) 16 - (T s k).length))) (pq_sh a4 (17 * s + k + 1) (17 * s + 17) (-nI (T s k).length)) (upd a5 (16 * s + k) 0) := by
  intro z hz
  by_cases e : z = s
  · subst e
    rw [pq_T_s]
    exact pq_S_drop hc hk (h z hz)
  · rw [pq_T_n e]
    have hb := (h s hs).1
    have hl := pq_of_lt (T s) hk
    exact pq_S_frame (by omega) (h z hz) (fun j j1 j2 => pq_rmo (by omega)) (fun j j1 j2 => pq_rmo (by omega)) (pk_un e) (fun j j1 j2 => pq_sho (by omega)) (fun j j1 j2 => pk_un (by omega))
end
section
/-! the methods that store: feed, drop, extremes, finish, close -/
section
variable {o ll hh : Int32} {a1 a2 a3 a4 a5 a6 a7 a8 a9 a10 a11 : Nat → Int32} {c : Nat} {T : Nat → Nat → List Int}
theorem pq_len {s k : Nat} (hs : s < 2) (hk : k < 16) (h : pq_P c T a1 a2 a3 a4 a5) : pq_of (T s) k + (T s k).length ≤ c := by
  have h1 := (h s hs).1
  have h2 := pq_of_lt (T s) hk
  omega
theorem pq_cnt {post : Int32 → Prop} {s k : Nat} (hs : s < 2) (hk : k < 16) (h : pq_P c T a1 a2 a3 a4 a5) (H : post (nI (T s k).length)) : wpX_countOf post (o, ll, hh, a1, a2, a3, a4, a5, a6, a7, a8, a9, a10, a11) (nI s) (nI k) := by
  obtain ⟨_, _, k3, _⟩ := h s hs
  refine pq_countOf hs hk (k3 k (by omega)) (k3 (k + 1) (by omega)) (Nat.le_add_right _ _) ?_
  rw [show pq_of (T s) (k + 1) - pq_of (T s) k = (T s k).length from Nat.add_sub_cancel_left _ _]
  exact H
theorem pq_pairsOf {post : Int32 → Prop} {k : Nat} (hk : k < 16) (h : pq_P c T a1 a2 a3 a4 a5) (H : post (nI ((T 0 k).length * (T 1 k).length))) : wpX_pairsOf post (o, ll, hh, a1, a2, a3, a4, a5, a6, a7, a8, a9, a10, a11) (nI k) := by
  unfold wpX_pairsOf
  refine pq_cnt (s := 0) (by omega) hk h ?_
  refine pq_cnt (s := 1) (by omega) hk h ?_
  rw [pk_mul]
  exact H
theorem pq_placeP {post : Int32 → Prop} {s k : Nat} {v : Int} (hs : s < 2) (hk : k < 16) (hc : c ≤ 31) (h : pq_P c T a1 a2 a3 a4 a5) (hv1 : -10000 ≤ v) (hv2 : v ≤ 10000)
    (H : ∀ q, q ≤ (T s k).length → (∀ i, i < q → (T s k).getD i 0 < v) → (∀ i, q ≤ i → i < (T s k).length → v ≤ (T s k).getD i 0) → post (nI (40 * s + pq_of (T s) k + q))) :
    wpX_place post (o, ll, hh, a1, a2, a3, a4, a5, a6, a7, a8, a9, a10, a11) (nI s) (nI k) (pq_z v) := by
  have hl := pq_len hs hk h
  obtain ⟨k1, k2, k3, k4, k5, k6, k7⟩ := h s hs
  refine pq_place (V := fun i => (T s k).getD (i - pq_of (T s) k) 0) (b := pq_of (T s) k) (e := pq_of (T s) k + (T s k).length) hs hk (k3 k (by omega)) (k3 (k + 1) (by omega)) (by omega) (by omega) ?_ ?_ hv1 hv2 ?_
  · intro i i1 i2
    have t := (k4 k hk (i - pq_of (T s) k) (by omega)).2
    rw [show 40 * s + pq_of (T s) k + (i - pq_of (T s) k) = 40 * s + i by omega] at t
    exact ⟨t, k7 k hk _ (pq_gm (by omega))⟩
  · intro i j i1 i2 i3
    exact k6 k hk _ _ (by omega) (by omega)
  · intro p p1 p2 p3 p4
    obtain ⟨q, rfl⟩ : ∃ q, p = pq_of (T s) k + q := ⟨p - pq_of (T s) k, by omega⟩
    have r := H q (by omega) (fun i hi => by
      have t : (T s k).getD (pq_of (T s) k + i - pq_of (T s) k) 0 < v := p3 (pq_of (T s) k + i) (by omega) (by omega)
      rw [Nat.add_sub_cancel_left] at t
      exact t) (fun i hi hi2 => by
      have t : v ≤ (T s k).getD (pq_of (T s) k + i - pq_of (T s) k) 0 := p4 (pq_of (T s) k + i) (by omega) (by omega)
      rw [Nat.add_sub_cancel_left] at t
      exact t)
    rw [Nat.add_assoc] at r
    exact r
theorem pq_e40 (s : Nat) : (40 : Int32) * nI s = nI (40 * s) := pk_mul 40 s
theorem pq_feed {post : Int32 → St2 → Prop} {s k : Nat} {v : Int} (hs : s < 2) (hk : k < 16) (hc : c ≤ 30) (hv1 : -50 ≤ v) (hv2 : v ≤ 50) (h6 : a6 (16 * s + k) = 0) (h : pq_P c T a1 a2 a3 a4 a5)
    (H : ∀ (l : List Int) (n : Nat) (b1 b2 b3 b4 b5 : Nat → Int32), l.Perm (v :: T s k) → n ≤ 30 → pq_P (c + 1) (pq_T T s k l) b1 b2 b3 b4 b5 → post (nI (n + 1)) (o, ll, hh, b1, b2, b3, b4, b5, a6, a7, a8, a9, a10, a11)) :
    wpX_feed post (o, ll, hh, a1, a2, a3, a4, a5, a6, a7, a8, a9, a10, a11) (nI s) (nI k) (pq_z v) := by
  have hl := pq_of_lt (T s) hk
  have k1 := (h s hs).1
  have k2 := (h s hs).2.1
  have hin : vp_in (nI s) 2 := vp_in_nI hs (by omega)
  have e6 : a6 ((16 : Int32) * nI s + nI k).toNatClampNeg = 0 := by
    rw [pq_ixc 16 s k (by omega)]
    exact h6
  have e3 : a3 (nI s).toNatClampNeg = nI (pq_of (T s) 16) := by
    rw [nI_clamp (by omega)]
    exact k2
  have e3' : ¬ a3 (nI s).toNatClampNeg = 40 := by
    rw [e3]
    intro z
    have z' : nI (pq_of (T s) 16) = nI 40 := z
    have := (nI_eq (by omega) (by omega)).mp z'
    omega
  unfold wpX_feed
  refine pq_isStream hs ?_
  refine br_f (by decide) ?_
  refine pq_isKey hk ?_
  refine br_f (by decide) ?_
  refine pq_blt v (-50) (fun z => absurd z (by omega)) (fun _ => pq_ble v 50 (fun _ => ?_) (fun z => absurd z (by omega)) ⟨by omega, by omega⟩ ⟨by omega, by omega⟩) ⟨by omega, by omega⟩ ⟨by omega, by omega⟩
  refine ⟨pq_ixi 16 s k (by omega), br_t e6 ⟨hin, br_f e3' (nm_r (pq_e40 s) ?_)⟩⟩
  refine pq_placeP hs hk (by omega) h (by omega) (by omega) (fun q q1 q2 q3 => ?_)
  refine ⟨hin, nm_r (e' := nI (40 * s + pq_of (T s) 16)) (by rw [e3, nI_add]) ?_⟩
  have HH := H _ (pq_of (T s) 16) _ _ _ _ _ (pq_pi v (T s k) q) (by omega) (pq_P_feed hc hs hk h hv1 hv2 q1 q2 q3)
  rw [← nI_1, ← k2] at HH
  have w := pq_feed91 (p := 40 * s + pq_of (T s) k + q) (N := 40 * s + pq_of (T s) 16) hs hk (by omega) HH (pq_of (T s) 16 - pq_of (T s) k - q) (by omega)
  rw [show 40 * s + pq_of (T s) k + q + (pq_of (T s) 16 - pq_of (T s) k - q) = 40 * s + pq_of (T s) 16 by omega, pq_mv0, pq_mv0] at w
  exact ⟨_, w⟩
theorem pq_drop {post : St2 → Prop} {s k : Nat} (hs : s < 2) (hk : k < 16) (hc : c ≤ 30) (h : pq_P c T a1 a2 a3 a4 a5)
    (H : ∀ (b1 b2 b3 b4 b5 : Nat → Int32), pq_P c (pq_T T s k []) b1 b2 b3 b4 b5 → post (o, ll, hh, b1, b2, b3, b4, b5, a6, a7, a8, a9, a10, a11)) :
    wpX_drop post (o, ll, hh, a1, a2, a3, a4, a5, a6, a7, a8, a9, a10, a11) (nI s) (nI k) := by
  have hl := pq_of_lt (T s) hk
  have k1 := (h s hs).1
  have k2 := (h s hs).2.1
  have k3 := (h s hs).2.2.1
  unfold wpX_drop
  refine pq_cnt hs hk h ?_
  refine nm_r (pq_e40 s) ⟨pq_ixi 17 s k (by omega), nm_r (e' := nI (40 * s + pq_of (T s) k)) ?_ (nm_r (nI_add _ _) ?_)⟩
  · rw [pq_ixc 17 s k (by omega), k3 k (by omega), nI_add]
  · exact pq_drop35 hs hk (by omega) (by omega) k2 (by omega) (H _ _ _ _ _ (pq_P_drop hc hs hk h))
theorem pq_spread' {post : St2 → Prop} {l h p : Int} {x : Int32} (hx : x = pq_z p) (hl : pq_r l) (hhr : pq_r h) (hp : pq_r p) (H : post (o, pq_z (min l p), pq_z (max h p), a1, a2, a3, a4, a5, a6, a7, a8, a9, a10, a11)) :
    wpX_spread post (o, pq_z l, pq_z h, a1, a2, a3, a4, a5, a6, a7, a8, a9, a10, a11) x := by
  subst hx
  exact pq_spread hl hhr hp H
theorem pq_m1 {m : Nat} (h : 0 < m) : nI m - 1 = nI (m - 1) := pk_sub (b := 1) h
theorem pq_extremes {post : St2 → Prop} {k : Nat} (hk : k < 16) (hc : c ≤ 30) (h : pq_P c T a1 a2 a3 a4 a5) (h0 : 0 < (T 0 k).length) (h1 : 0 < (T 1 k).length)
    (H : ∀ z w : Int, pq_lz (T 0 k) (T 1 k) z → pq_gz (T 0 k) (T 1 k) w → post (o, pq_z z, pq_z w, a1, a2, a3, a4, a5, a6, a7, a8, a9, a10, a11)) :
    wpX_extremes post (o, ll, hh, a1, a2, a3, a4, a5, a6, a7, a8, a9, a10, a11) (nI k) := by
  have l0 := pq_len (s := 0) (by omega) hk h
  have l1 := pq_len (s := 1) (by omega) hk h
  obtain ⟨_, _, p3, p4, _, p6, p7⟩ := h 0 (by omega)
  obtain ⟨_, _, r3, r4, _, r6, r7⟩ := h 1 (by omega)
  have q0 : a4 k = nI (pq_of (T 0) k) := by
    have t := p3 k (by omega)
    rw [show 17 * 0 + k = k by omega] at t
    exact t
  have q1 : a4 (k + 1) = nI (pq_of (T 0) k + (T 0 k).length) := by
    have t := p3 (k + 1) (by omega)
    rw [show 17 * 0 + (k + 1) = k + 1 by omega] at t
    exact t
  have q2 : a4 (17 + k) = nI (pq_of (T 1) k) := by
    have t := r3 k (by omega)
    rw [show 17 * 1 + k = 17 + k by omega] at t
    exact t
  have q3 : a4 (17 + k + 1) = nI (pq_of (T 1) k + (T 1 k).length) := by
    have t := r3 (k + 1) (by omega)
    rw [show 17 * 1 + (k + 1) = 17 + k + 1 by omega] at t
    exact t
  have v0 : a2 (pq_of (T 0) k) = pq_z ((T 0 k).getD 0 0) := by
    have t := (p4 k hk 0 h0).2
    rw [show 40 * 0 + pq_of (T 0) k + 0 = pq_of (T 0) k by omega] at t
    exact t
  have v1 : a2 (pq_of (T 0) k + (T 0 k).length - 1) = pq_z ((T 0 k).getD ((T 0 k).length - 1) 0) := by
    have t := (p4 k hk ((T 0 k).length - 1) (by omega)).2
    rw [show 40 * 0 + pq_of (T 0) k + ((T 0 k).length - 1) = pq_of (T 0) k + (T 0 k).length - 1 by omega] at t
    exact t
  have v2 : a2 (40 + pq_of (T 1) k) = pq_z ((T 1 k).getD 0 0) := by
    have t := (r4 k hk 0 h1).2
    rw [show 40 * 1 + pq_of (T 1) k + 0 = 40 + pq_of (T 1) k by omega] at t
    exact t
  have v3 : a2 (40 + (pq_of (T 1) k + (T 1 k).length) - 1) = pq_z ((T 1 k).getD ((T 1 k).length - 1) 0) := by
    have t := (r4 k hk ((T 1 k).length - 1) (by omega)).2
    rw [show 40 * 1 + pq_of (T 1) k + ((T 1 k).length - 1) = 40 + (pq_of (T 1) k + (T 1 k).length) - 1 by omega] at t
    exact t
  have s17 : (17 : Int32) + nI k = nI (17 + k) := nI_add 17 k
  have E0 : a4 (nI k).toNatClampNeg = nI (pq_of (T 0) k) := by rw [nI_clamp (by omega), q0]
  have E1 : a4 (nI k + 1).toNatClampNeg - 1 = nI (pq_of (T 0) k + (T 0 k).length - 1) := by rw [nI_1, nI_clamp (by omega), q1, pq_m1 (by omega)]
  have E2 : (40 : Int32) + a4 ((17 : Int32) + nI k).toNatClampNeg = nI (40 + pq_of (T 1) k) := by
    rw [s17, nI_clamp (by omega), q2]
    exact nI_add 40 _
  have E3 : (40 : Int32) + a4 ((17 : Int32) + nI k + 1).toNatClampNeg - 1 = nI (40 + (pq_of (T 1) k + (T 1 k).length) - 1) := by
    rw [s17, nI_1, nI_clamp (by omega), q3, show (40 : Int32) = nI 40 from rfl, nI_add, pq_m1 (by omega)]
  have b0 := p7 k hk _ (pq_gm h0)
  have b1 := p7 k hk _ (pq_gm (show (T 0 k).length - 1 < (T 0 k).length by omega))
  have b2 := r7 k hk _ (pq_gm h1)
  have b3 := r7 k hk _ (pq_gm (show (T 1 k).length - 1 < (T 1 k).length by omega))
  have HH := H _ _ (pq_lz_s (p6 k hk) (r6 k hk) h0 h1) (pq_gz_s (p6 k hk) (r6 k hk) h0 h1)
  unfold pq_mn4 pq_mx4 at HH
  generalize (T 0 k).getD 0 0 = A at *
  generalize (T 0 k).getD ((T 0 k).length - 1) 0 = B at *
  generalize (T 1 k).getD 0 0 = C at *
  generalize (T 1 k).getD ((T 1 k).length - 1) 0 = D at *
  have m0 := pq_small b0.1 b0.2 b2.1 b2.2
  have m1 := pq_small b0.1 b0.2 b3.1 b3.2
  have m2 := pq_small b1.1 b1.2 b2.1 b2.2
  have m3 := pq_small b1.1 b1.2 b3.1 b3.2
  refine ⟨vp_in_nI (by omega) (by omega), by rw [E0]; exact vp_in_nI (by omega) (by omega), nm_r (e' := pq_z A) (by rw [E0, nI_clamp (by omega), v0]) ⟨by rw [nI_1]; exact vp_in_nI (by omega) (by omega), by rw [E1]; exact vp_in_nI (by omega) (by omega), nm_r (e' := pq_z B) (by rw [E1, nI_clamp (by omega), v1]) ⟨by rw [s17]; exact vp_in_nI (by omega) (by omega), by rw [E2]; exact vp_in_nI (by omega) (by omega), nm_r (e' := pq_z C) (by rw [E2, nI_clamp (by omega), v2]) ⟨by rw [s17, nI_1]; exact vp_in_nI (by omega) (by omega), by rw [E3]; exact vp_in_nI (by omega) (by omega), nm_r (e' := pq_z D) (by rw [E3, nI_clamp (by omega), v3]) (nm_r (pq_mul A C) ?_)⟩⟩⟩⟩
  refine pq_spread' (pq_mul A D) ⟨by omega, by omega⟩ ⟨by omega, by omega⟩ ⟨by omega, by omega⟩ ?_
  refine pq_spread' (pq_mul B C) ⟨by omega, by omega⟩ ⟨by omega, by omega⟩ ⟨by omega, by omega⟩ ?_
  exact pq_spread' (pq_mul B D) ⟨by omega, by omega⟩ ⟨by omega, by omega⟩ ⟨by omega, by omega⟩ HH
/-- what a finished key puts out -/
def pq_out (L K : List Int) (k r r' : Nat) (a7 a8 a9 a10 a11 b7 b8 b9 b10 b11 : Nat → Int32) : Prop :=
  (L.length * K.length = 0 ∧ r' = r ∧ b7 = a7 ∧ b8 = a8 ∧ b9 = a9 ∧ b10 = a10 ∧ b11 = a11) ∨
  (0 < L.length * K.length ∧ r' = r + 1 ∧ ∃ z w : Int, pq_lz L K z ∧ pq_gz L K w ∧ b7 = upd a7 r (nI k) ∧ b8 = upd a8 r (nI (L.length * K.length)) ∧ b9 = upd a9 r (pq_z (L.sum * K.sum)) ∧ b10 = upd a10 r (pq_z z) ∧ b11 = upd a11 r (pq_z w))
def pq_C (T : Nat → Nat → List Int) (k : Nat) : Nat → Nat → List Int := pq_T (pq_T T 0 k []) 1 k []
theorem pq_fin105 {post : St2 → Prop} {k : Nat} (hk : k < 16) (hc : c ≤ 30) (h : pq_P c T a1 a2 a3 a4 a5)
    (H : ∀ (b1 b2 b3 b4 b5 : Nat → Int32), pq_P c (pq_C T k) b1 b2 b3 b4 b5 → post (o, ll, hh, b1, b2, b3, b4, b5, a6, a7, a8, a9, a10, a11)) :
    wX_finish_105 post (nI k) o ll hh a1 a2 a3 a4 a5 a6 a7 a8 a9 a10 a11 :=
  pq_drop (s := 0) (by omega) hk hc h (fun b1 b2 b3 b4 b5 hb => pq_drop (s := 1) (by omega) hk hc hb H)
theorem pq_finish {post : St2 → Prop} {k r : Nat} (hk : k < 16) (hc : c ≤ 30) (hr : r < 16) (h : pq_P c T a1 a2 a3 a4 a5)
    (H : ∀ (r' : Nat) (l' h' : Int32) (b1 b2 b3 b4 b5 b7 b8 b9 b10 b11 : Nat → Int32), pq_P c (pq_C T k) b1 b2 b3 b4 b5 → pq_out (T 0 k) (T 1 k) k r r' a7 a8 a9 a10 a11 b7 b8 b9 b10 b11 → post (nI r', l', h', b1, b2, b3, b4, b5, a6, b7, b8, b9, b10, b11)) :
    wpX_finish post (nI r, ll, hh, a1, a2, a3, a4, a5, a6, a7, a8, a9, a10, a11) (nI k) := by
  have l0 := pq_len (s := 0) (by omega) hk h
  have l1 := pq_len (s := 1) (by omega) hk h
  have hm : (T 0 k).length * (T 1 k).length ≤ 30 * 30 := Nat.mul_le_mul (by omega) (by omega)
  have g0 : a5 (nI k).toNatClampNeg = pq_z (T 0 k).sum := by
    have t := (h 0 (by omega)).2.2.2.2.1 k hk
    rw [show 16 * 0 + k = k by omega] at t
    rw [nI_clamp (by omega), t]
  have g1 : a5 ((16 : Int32) + nI k).toNatClampNeg = pq_z (T 1 k).sum := by
    have t := (h 1 (by omega)).2.2.2.2.1 k hk
    rw [show 16 * 1 + k = 16 + k by omega] at t
    rw [show (16 : Int32) = nI 16 from rfl, nI_add, nI_clamp (by omega), t]
  unfold wpX_finish
  refine pq_pairsOf hk h ?_
  refine pk_le ((T 0 k).length * (T 1 k).length) 0 (fun z => ?_) (fun z => pk_le 16 r (fun z2 => absurd z2 (by omega)) (fun _ => ?_))
  · exact pq_fin105 hk hc h (fun b1 b2 b3 b4 b5 hb => H r ll hh b1 b2 b3 b4 b5 a7 a8 a9 a10 a11 hb (Or.inl ⟨by omega, rfl, rfl, rfl, rfl, rfl, rfl⟩))
  · have h0 : 0 < (T 0 k).length := by
      rcases Nat.eq_zero_or_pos (T 0 k).length with e | e
      · rw [e, Nat.zero_mul] at z
        omega
      · exact e
    have h1 : 0 < (T 1 k).length := by
      rcases Nat.eq_zero_or_pos (T 1 k).length with e | e
      · rw [e, Nat.mul_zero] at z
        omega
      · exact e
    refine pq_extremes hk hc h h0 h1 (fun x w hx hw => ?_)
    have cr : (nI r).toNatClampNeg = r := nI_clamp (by omega)
    have ir : vp_in (nI r) 16 := vp_in_nI hr (by omega)
    have HH := fun b1 b2 b3 b4 b5 hb => H (r + 1) (pq_z x) (pq_z w) b1 b2 b3 b4 b5 _ _ _ _ _ hb (Or.inr ⟨z, rfl, x, w, hx, hw, rfl, rfl, rfl, rfl, rfl⟩)
    exact ⟨ir, nm_r (by rw [cr]) ⟨ir, nm_r (by rw [cr]) ⟨vp_in_nI (by omega) (by omega), by rw [show (16 : Int32) = nI 16 from rfl, nI_add]; exact vp_in_nI (by omega) (by omega), ir, nm_r (by rw [cr, g0, g1, pq_mul]) ⟨ir, nm_r (by rw [cr]) ⟨ir, nm_r (by rw [cr]) (nm_r (nI_1 r) (pq_fin105 hk hc h HH))⟩⟩⟩⟩⟩
theorem pq_c33x {post : Int32 → St2 → Prop} {x x4 : Int32} {e j n : Nat} (he : e < j) (hj : j < 2 ^ 31) (H : post x4 (o, ll, hh, a1, a2, a3, a4, a5, a6, a7, a8, a9, a10, a11)) :
    wX_close_33 post x (nI e) (n + 1) x4 (nI j) o ll hh a1 a2 a3 a4 a5 a6 a7 a8 a9 a10 a11 :=
  pk_lt e j (fun _ => H) (fun z => absurd z (by omega))
theorem pq_1s {s : Nat} (hs : s < 2) : (1 : Int32) - nI s = nI (1 - s) := pk_sub (a := 1) (by omega)
theorem pq_c33a {post : Int32 → St2 → Prop} {x4 : Int32} {s e j n : Nat} (hs : s < 2) (hj : j ≤ e) (he : e < 16) (g1 : a6 (16 * s + j) = 0) (g2 : a6 (16 * (1 - s) + j) = 0)
    (H : wX_close_33 post (nI s) (nI e) n x4 (nI (j + 1)) o ll hh a1 a2 a3 a4 a5 (upd a6 (16 * s + j) 1) a7 a8 a9 a10 a11) :
    wX_close_33 post (nI s) (nI e) (n + 1) x4 (nI j) o ll hh a1 a2 a3 a4 a5 a6 a7 a8 a9 a10 a11 := by
  have u1 : upd a6 ((16 : Int32) * nI s + nI j).toNatClampNeg 1 = upd a6 (16 * s + j) 1 := by rw [pq_ixc 16 s j (by omega)]
  have g1' : a6 ((16 : Int32) * nI s + nI j).toNatClampNeg = 0 := by
    rw [pq_ixc 16 s j (by omega)]
    exact g1
  have g2' : upd a6 (16 * s + j) 1 ((16 : Int32) * (1 - nI s) + nI j).toNatClampNeg = 0 := by
    rw [pq_1s hs, pq_ixc 16 (1 - s) j (by omega), pk_un (by omega)]
    exact g2
  have i2 : vp_in ((16 : Int32) * (1 - nI s) + nI j) 32 := by
    rw [pq_1s hs]
    exact pq_ixi 16 (1 - s) j (by omega)
  exact pk_lt e j (fun z => absurd z (by omega)) (fun _ => ⟨pq_ixi 16 s j (by omega), br_t g1' ⟨pq_ixi 16 s j (by omega), nm_r u1 ⟨i2, br_t g2' (nm_r (nI_1 j) H)⟩⟩⟩)
theorem pq_c33b {post : Int32 → St2 → Prop} {x4 : Int32} {s e j n r : Nat} (hs : s < 2) (hj : j ≤ e) (he : e < 16) (hc : c ≤ 30) (hr : r < 16) (h : pq_P c T a1 a2 a3 a4 a5) (g1 : a6 (16 * s + j) = 0) (g2 : ¬ a6 (16 * (1 - s) + j) = 0)
    (H : ∀ (r' : Nat) (l' h' : Int32) (b1 b2 b3 b4 b5 b7 b8 b9 b10 b11 : Nat → Int32), pq_P c (pq_C T j) b1 b2 b3 b4 b5 → pq_out (T 0 j) (T 1 j) j r r' a7 a8 a9 a10 a11 b7 b8 b9 b10 b11 →
      wX_close_33 post (nI s) (nI e) n (x4 + 1) (nI (j + 1)) (nI r') l' h' b1 b2 b3 b4 b5 (upd a6 (16 * s + j) 1) b7 b8 b9 b10 b11) :
    wX_close_33 post (nI s) (nI e) (n + 1) x4 (nI j) (nI r) ll hh a1 a2 a3 a4 a5 a6 a7 a8 a9 a10 a11 := by
  have u1 : upd a6 ((16 : Int32) * nI s + nI j).toNatClampNeg 1 = upd a6 (16 * s + j) 1 := by rw [pq_ixc 16 s j (by omega)]
  have g1' : a6 ((16 : Int32) * nI s + nI j).toNatClampNeg = 0 := by
    rw [pq_ixc 16 s j (by omega)]
    exact g1
  have g2' : ¬ upd a6 (16 * s + j) 1 ((16 : Int32) * (1 - nI s) + nI j).toNatClampNeg = 0 := by
    rw [pq_1s hs, pq_ixc 16 (1 - s) j (by omega), pk_un (by omega)]
    exact g2
  have i2 : vp_in ((16 : Int32) * (1 - nI s) + nI j) 32 := by
    rw [pq_1s hs]
    exact pq_ixi 16 (1 - s) j (by omega)
  exact pk_lt e j (fun z => absurd z (by omega)) (fun _ => ⟨pq_ixi 16 s j (by omega), br_t g1' ⟨pq_ixi 16 s j (by omega), nm_r u1 ⟨i2, br_f g2' (pq_finish (by omega) hc hr h (fun r' l' h' b1 b2 b3 b4 b5 b7 b8 b9 b10 b11 hb ho => nm_e (nm_r (nI_1 j) (H r' l' h' b1 b2 b3 b4 b5 b7 b8 b9 b10 b11 hb ho))))⟩⟩⟩)
theorem pq_close {post : Int32 → St2 → Prop} {s f e : Nat} (hs : s < 2) (hfe : f ≤ e) (he : e < 16) (H : ∃ n, wX_close_33 post (nI s) (nI e) n 0 (nI f) o ll hh a1 a2 a3 a4 a5 a6 a7 a8 a9 a10 a11) :
    wpX_close post (o, ll, hh, a1, a2, a3, a4, a5, a6, a7, a8, a9, a10, a11) (nI s) (nI f) (nI e) := by
  unfold wpX_close
  refine pq_isStream hs ?_
  refine br_f (by decide) ?_
  exact pk_lt f 0 (fun z => absurd z (by omega)) (fun _ => pk_lt e f (fun z => absurd z (by omega)) (fun _ => pk_lt e 16 (fun _ => H) (fun z => absurd z (by omega))))
end
end
section
/-! the methods that only read: partnersFrom, pairsFrom, pairs, sum, least, greatest, results, bands -/
def pq_c (l : List Int) (x bd : Int) : Nat := l.countP (fun y => decide (bd ≤ x * y))
def pq_ps (g : Nat → Nat) : Nat → Nat
  | 0 => 0
  | n + 1 => pq_ps g n + g n
theorem pq_ps_add (g : Nat → Nat) (n : Nat) : ∀ m, pq_ps g (n + m) = pq_ps g n + pq_ps (fun i => g (n + i)) m := by
  intro m
  induction m with
  | zero => rfl
  | succ m ih =>
    show pq_ps g (n + m) + g (n + m) = pq_ps g n + (pq_ps (fun i => g (n + i)) m + g (n + m))
    omega
theorem pq_ps_congr {g h : Nat → Nat} : ∀ n, (∀ i, i < n → g i = h i) → pq_ps g n = pq_ps h n := by
  intro n
  induction n with
  | zero => intro _; rfl
  | succ n ih =>
    intro e
    show pq_ps g n + g n = pq_ps h n + h n
    rw [ih (fun i hi => e i (by omega)), e n (by omega)]
theorem pq_ps_list (f : Int → Nat) : ∀ l : List Int, pq_ps (fun i => f (l.getD i 0)) l.length = (l.map f).sum := by
  intro l
  induction l with
  | nil => rfl
  | cons a l ih =>
    rw [List.length_cons, Nat.add_comm, pq_ps_add, List.map_cons, List.sum_cons, ← ih]
    have e1 : pq_ps (fun i => f ((a :: l).getD i 0)) 1 = f a := by
      show 0 + f ((a :: l).getD 0 0) = f a
      rw [List.getD_cons_zero, Nat.zero_add]
    rw [e1]
    congr 1
    apply pq_ps_congr
    intro i hi
    show f ((a :: l).getD (1 + i) 0) = f (l.getD i 0)
    rw [Nat.add_comm 1 i, List.getD_cons_succ]
section
variable {o ll hh : Int32} {a1 a2 a3 a4 a5 a6 a7 a8 a9 a10 a11 : Nat → Int32} {c : Nat} {T : Nat → Nat → List Int}
theorem pq_152 {post : Int32 → Prop} {k : Nat} {x ak v : Int} {z0 : Int32} (hk : k < 16) (hc : c ≤ 30) (h : pq_P c T a1 a2 a3 a4 a5) (hz : z0 + 1 = pq_z v) (hv1 : -10000 ≤ v) (hv2 : v ≤ 10000)
    (hf : ∀ y, y ∈ T 1 k → (ak ≤ x * y ↔ y < v)) (H : post (nI (pq_c (T 1 k) x ak))) : wX_partnersFrom_152 post (nI k) (nI (40 + pq_of (T 1) k)) z0 o ll hh a1 a2 a3 a4 a5 a6 a7 a8 a9 a10 a11 := by
  unfold wX_partnersFrom_152
  rw [hz]
  refine pq_placeP (s := 1) (by omega) hk (by omega) h hv1 hv2 (fun q q1 q2 q3 => ?_)
  have e : pq_c (T 1 k) x ak = q := pq_cntB (T 1 k) q q1 q2 q3 (fun y hy => by rw [decide_eq_true_iff]; exact hf y hy)
  rw [pk_sub (by omega), show 40 * 1 + pq_of (T 1) k + q - (40 + pq_of (T 1) k) = q by omega, ← e]
  exact H
theorem pq_102 {post : Int32 → Prop} {k : Nat} {x ak v : Int} {z0 : Int32} (hk : k < 16) (hc : c ≤ 30) (h : pq_P c T a1 a2 a3 a4 a5) (hz : z0 = pq_z v) (hv1 : -10000 ≤ v) (hv2 : v ≤ 10000)
    (hf : ∀ y, y ∈ T 1 k → (ak ≤ x * y ↔ v ≤ y)) (H : post (nI (pq_c (T 1 k) x ak))) : wX_partnersFrom_102 post (nI k) (nI (T 1 k).length) (nI (40 + pq_of (T 1) k)) z0 o ll hh a1 a2 a3 a4 a5 a6 a7 a8 a9 a10 a11 := by
  unfold wX_partnersFrom_102
  rw [hz]
  refine pq_placeP (s := 1) (by omega) hk (by omega) h hv1 hv2 (fun q q1 q2 q3 => ?_)
  have e : pq_c (T 1 k) x ak = (T 1 k).length - q := pq_cntA (T 1 k) q q1 q2 q3 (fun y hy => by rw [decide_eq_true_iff]; exact hf y hy)
  rw [pk_sub (by omega), show 40 * 1 + pq_of (T 1) k + q - (40 + pq_of (T 1) k) = q by omega, pk_sub q1, ← e]
  exact H
theorem pq_74 {post : Int32 → Prop} {k : Nat} {x ak : Int} (hk : k < 16) (hc : c ≤ 30) (h : pq_P c T a1 a2 a3 a4 a5) (hx1 : -50 ≤ x) (hx2 : x ≤ 50) (hx0 : x ≠ 0) (h1 : -3000 ≤ ak) (h2 : ak ≤ 3000)
    (H : post (nI (pq_c (T 1 k) x ak))) : wX_partnersFrom_74 post (nI k) (pq_z x) (nI (T 1 k).length) (nI (40 + pq_of (T 1) k)) (pq_z ak) o ll hh a1 a2 a3 a4 a5 a6 a7 a8 a9 a10 a11 := by
  refine pq_ble x 0 (fun z => ?_) (fun z => ?_) ⟨by omega, by omega⟩ ⟨by omega, by omega⟩
  · obtain ⟨X, rfl⟩ : ∃ X : Nat, x = -(X : Int) := ⟨(-x).toNat, by omega⟩
    have hX0 : 0 < X := by omega
    refine nm_r (e' := nI X) (by rw [pq_neg, Int.neg_neg, ← pq_nz]) ?_
    have hne : ¬ nI X = 0 := nI_ne0 hX0 (by omega)
    refine pq_ble ak 0 (fun z3 => ⟨hne, ?_⟩) (fun z3 => ⟨hne, ?_⟩) ⟨by omega, by omega⟩ ⟨by omega, by omega⟩
    · obtain ⟨A, rfl⟩ : ∃ A : Nat, ak = -(A : Int) := ⟨(-ak).toNat, by omega⟩
      have hd : A / X ≤ A := Nat.div_le_self A X
      have hd0 : (0 : Int) ≤ ((A / X : Nat) : Int) := Int.natCast_nonneg _
      refine pq_152 (v := ((A / X : Nat) : Int) + 1) hk hc h ?_ (by omega) (by omega) (fun y hy => ?_) H
      · rw [pq_neg, Int.neg_neg, ← pq_nz, pk_div (by omega) hX0 (by omega), pq_nz]
        exact pq_add _ 1
      · have t := pq_d2 (A := A) (X := X) (-y) hX0
        rw [Int.mul_neg] at t
        rw [Int.neg_mul, ← t]
        omega
    · obtain ⟨A, rfl⟩ : ∃ A : Nat, ak = (A : Int) := ⟨ak.toNat, by omega⟩
      have hd : (A + X - 1) / X ≤ A + X - 1 := Nat.div_le_self _ X
      have hd0 : (0 : Int) ≤ (((A + X - 1) / X : Nat) : Int) := Int.natCast_nonneg _
      have e : (pq_z (A : Int) + nI X - 1) / nI X = nI ((A + X - 1) / X) := by
        rw [← pq_nz, nI_add, pq_m1 (by omega), pk_div (by omega) hX0 (by omega)]
      refine pq_152 (v := -(((A + X - 1) / X : Nat) : Int) + 1) hk hc h ?_ (by omega) (by omega) (fun y hy => ?_) H
      · rw [e, pq_nz, pq_neg]
        exact pq_add _ 1
      · have t := pq_d1 (A := A) (X := X) (-y) hX0
        rw [Int.mul_neg] at t
        rw [Int.neg_mul, ← t]
        omega
  · obtain ⟨X, rfl⟩ : ∃ X : Nat, x = (X : Int) := ⟨x.toNat, by omega⟩
    have hX0 : 0 < X := by omega
    have hne : ¬ pq_z (X : Int) = 0 := by
      rw [← pq_nz]
      exact nI_ne0 hX0 (by omega)
    refine pq_ble ak 0 (fun z3 => ⟨hne, ?_⟩) (fun z3 => ⟨hne, ?_⟩) ⟨by omega, by omega⟩ ⟨by omega, by omega⟩
    · obtain ⟨A, rfl⟩ : ∃ A : Nat, ak = -(A : Int) := ⟨(-ak).toNat, by omega⟩
      have hd : A / X ≤ A := Nat.div_le_self A X
      have hd0 : (0 : Int) ≤ ((A / X : Nat) : Int) := Int.natCast_nonneg _
      refine pq_102 (v := -((A / X : Nat) : Int)) hk hc h ?_ (by omega) (by omega) (fun y hy => ?_) H
      · rw [pq_neg, Int.neg_neg, ← pq_nz, ← pq_nz, pk_div (by omega) hX0 (by omega), pq_nz, pq_neg]
      · exact (pq_d2 (A := A) (X := X) y hX0).symm
    · obtain ⟨A, rfl⟩ : ∃ A : Nat, ak = (A : Int) := ⟨ak.toNat, by omega⟩
      have hd : (A + X - 1) / X ≤ A + X - 1 := Nat.div_le_self _ X
      have hd0 : (0 : Int) ≤ (((A + X - 1) / X : Nat) : Int) := Int.natCast_nonneg _
      have e : (pq_z (A : Int) + pq_z (X : Int) - 1) / pq_z (X : Int) = nI ((A + X - 1) / X) := by
        rw [← pq_nz, ← pq_nz, nI_add, pq_m1 (by omega), pk_div (by omega) hX0 (by omega)]
      refine pq_102 (v := (((A + X - 1) / X : Nat) : Int)) hk hc h ?_ (by omega) (by omega) (fun y hy => ?_) H
      · rw [e, pq_nz]
      · exact (pq_d1 (A := A) (X := X) y hX0).symm
theorem pq_partners {post : Int32 → Prop} {k : Nat} {x bd : Int} (hk : k < 16) (hc : c ≤ 30) (h : pq_P c T a1 a2 a3 a4 a5) (hx1 : -50 ≤ x) (hx2 : x ≤ 50) (hb : pq_r bd)
    (H : post (nI (pq_c (T 1 k) x bd))) : wpX_partnersFrom post (o, ll, hh, a1, a2, a3, a4, a5, a6, a7, a8, a9, a10, a11) (nI k) (pq_z x) (pq_z bd) := by
  have hlen := pq_len (s := 1) (by omega) hk h
  have r7 := (h 1 (by omega)).2.2.2.2.2.2
  have q2 : a4 (17 + k) = nI (pq_of (T 1) k) := by
    have t := (h 1 (by omega)).2.2.1 k (by omega)
    rw [show 17 * 1 + k = 17 + k by omega] at t
    exact t
  have s17 : (17 : Int32) + nI k = nI (17 + k) := nI_add 17 k
  have h17 : ((T 1 k).length = 0 ∨ x = 0) → wX_partnersFrom_17 post (pq_z bd) (nI (T 1 k).length) o ll hh a1 a2 a3 a4 a5 a6 a7 a8 a9 a10 a11 := by
    intro hz
    refine pq_blt 0 bd (fun z => ?_) (fun z => ?_) ⟨by omega, by omega⟩ hb
    · have e : pq_c (T 1 k) x bd = 0 := by
        rcases hz with e | e
        · rw [List.eq_nil_of_length_eq_zero e]
          rfl
        · subst e
          refine List.countP_eq_zero.mpr (fun y _ => ?_)
          rw [decide_eq_true_iff, Int.zero_mul]
          omega
      rw [e] at H
      exact H
    · have e : pq_c (T 1 k) x bd = (T 1 k).length := by
        rcases hz with e | e
        · rw [List.eq_nil_of_length_eq_zero e]
          rfl
        · subst e
          refine List.countP_eq_length.mpr (fun y _ => ?_)
          rw [decide_eq_true_iff, Int.zero_mul]
          omega
      rw [e] at H
      exact H
  unfold wpX_partnersFrom
  refine pq_cnt (s := 1) (by omega) hk h ?_
  refine pk_eq (T 1 k).length 0 (fun z => h17 (Or.inl z)) (fun z => pq_beq x 0 (fun z2 => h17 (Or.inr z2)) (fun z2 => ?_) ⟨by omega, by omega⟩ ⟨by omega, by omega⟩)
  refine ⟨by rw [s17]; exact vp_in_nI (by omega) (by omega), nm_r (e' := nI (40 + pq_of (T 1) k)) ?_ ?_⟩
  · rw [s17, nI_clamp (by omega), q2]
    exact nI_add 40 _
  · have main : ∀ ak : Int, -3000 ≤ ak → ak ≤ 3000 → (∀ y, y ∈ T 1 k → (bd ≤ x * y ↔ ak ≤ x * y)) → wX_partnersFrom_74 post (nI k) (pq_z x) (nI (T 1 k).length) (nI (40 + pq_of (T 1) k)) (pq_z ak) o ll hh a1 a2 a3 a4 a5 a6 a7 a8 a9 a10 a11 := by
      intro ak k1 k2 hy
      have hH : pq_c (T 1 k) x bd = pq_c (T 1 k) x ak := List.countP_congr (fun y hy' => by
        rw [decide_eq_true_iff, decide_eq_true_iff]
        exact hy y hy')
      rw [hH] at H
      exact pq_74 hk hc h hx1 hx2 z2 k1 k2 H
    rw [show (-3000 : Int32) = pq_z (-3000) from by rfl]
    refine pq_ble (-3000) bd (fun z3 => pq_ble bd 3000 (fun z4 => main bd z3 z4 (fun y _ => Iff.rfl)) (fun z4 => main 3000 (by omega) (by omega) (fun y hy => ?_)) hb ⟨by omega, by omega⟩) (fun z3 => pq_ble (-3000) 3000 (fun _ => main (-3000) (by omega) (by omega) (fun y hy => ?_)) (fun z4 => absurd z4 (by omega)) ⟨by omega, by omega⟩ ⟨by omega, by omega⟩) ⟨by omega, by omega⟩ hb
    · have t := r7 k hk y hy
      have t2 := pq_small hx1 hx2 t.1 t.2
      omega
    · have t := r7 k hk y hy
      have t2 := pq_small hx1 hx2 t.1 t.2
      omega
def pq_pf (T : Nat → Nat → List Int) (bd : Int) : Nat := ((T 0 6).map (fun x => pq_c (T 1 6) x bd)).sum + ((T 0 7).map (fun x => pq_c (T 1 7) x bd)).sum
theorem pq_pairsFrom {post : Int32 → Prop} {bd : Int} (hc : c ≤ 30) (h : pq_P c T a1 a2 a3 a4 a5) (hE : ∀ k, k < 16 → k ≠ 6 → k ≠ 7 → T 0 k = []) (hb : pq_r bd)
    (H : post (nI (pq_pf T bd))) : wpX_pairsFrom post (o, ll, hh, a1, a2, a3, a4, a5, a6, a7, a8, a9, a10, a11) (pq_z bd) := by
  have O6 : pq_of (T 0) 6 = 0 := by
    simp [pq_of, hE 0 (by omega) (by omega) (by omega), hE 1 (by omega) (by omega) (by omega), hE 2 (by omega) (by omega) (by omega), hE 3 (by omega) (by omega) (by omega), hE 4 (by omega) (by omega) (by omega), hE 5 (by omega) (by omega) (by omega)]
  have O7 : pq_of (T 0) 7 = (T 0 6).length := by
    show pq_of (T 0) 6 + (T 0 6).length = _
    omega
  have O8 : pq_of (T 0) 8 = (T 0 6).length + (T 0 7).length := by
    show pq_of (T 0) 7 + (T 0 7).length = _
    omega
  have O16 : pq_of (T 0) 16 = (T 0 6).length + (T 0 7).length := by
    rw [← O8]
    simp [pq_of, hE 8 (by omega) (by omega) (by omega), hE 9 (by omega) (by omega) (by omega), hE 10 (by omega) (by omega) (by omega), hE 11 (by omega) (by omega) (by omega), hE 12 (by omega) (by omega) (by omega), hE 13 (by omega) (by omega) (by omega), hE 14 (by omega) (by omega) (by omega), hE 15 (by omega) (by omega) (by omega)]
  obtain ⟨p1, p2, p3, p4, p5, p6, p7⟩ := h 0 (by omega)
  rw [O16] at p1 p2
  have c6 : ∀ i, i < (T 0 6).length → a1 i = nI 6 ∧ a2 i = pq_z ((T 0 6).getD i 0) := by
    intro i hi
    have t := p4 6 (by omega) i hi
    rw [show 40 * 0 + pq_of (T 0) 6 + i = i by omega] at t
    exact t
  have c7 : ∀ i, i < (T 0 7).length → a1 ((T 0 6).length + i) = nI 7 ∧ a2 ((T 0 6).length + i) = pq_z ((T 0 7).getD i 0) := by
    intro i hi
    have t := p4 7 (by omega) i hi
    rw [show 40 * 0 + pq_of (T 0) 7 + i = (T 0 6).length + i by omega] at t
    exact t
  have hg : ∃ g : Nat → Nat, (∀ i, i < (T 0 6).length → g i = pq_c (T 1 6) ((T 0 6).getD i 0) bd) ∧ (∀ i, g ((T 0 6).length + i) = pq_c (T 1 7) ((T 0 7).getD i 0) bd) :=
    ⟨fun i => if i < (T 0 6).length then pq_c (T 1 6) ((T 0 6).getD i 0) bd else pq_c (T 1 7) ((T 0 7).getD (i - (T 0 6).length) 0) bd, fun i hi => if_pos hi, fun i => by
      show (if (T 0 6).length + i < (T 0 6).length then _ else _) = _
      rw [if_neg (by omega), Nat.add_sub_cancel_left]⟩
  obtain ⟨g, g6, g7⟩ := hg
  have hsum : pq_ps g ((T 0 6).length + (T 0 7).length) = pq_pf T bd := by
    rw [pq_ps_add, pq_ps_congr (T 0 6).length g6, pq_ps_congr (T 0 7).length (fun i _ => g7 i)]
    rw [pq_ps_list (fun x => pq_c (T 1 6) x bd), pq_ps_list (fun x => pq_c (T 1 7) x bd)]
    rfl
  refine pk_loop (σ := Unit) (fun n i _ => wX_pairsFrom_4 post (pq_z bd) o ll hh a1 a2 a3 a4 a5 a6 a7 a8 a9 a10 a11 n (nI (pq_ps g i)) (nI i)) (fun _ _ => True) ((T 0 6).length + (T 0 7).length) 0 () (by omega) trivial ?_ ?_
  · intro n _ _
    refine pk_le ((T 0 6).length + (T 0 7).length) ((T 0 6).length + (T 0 7).length) (fun _ => ?_) (fun z => absurd z (by omega)) (hx := p2)
    rw [hsum]
    exact H
  · intro n i _ hi _ hw
    have hw' := hw () trivial
    have ei : (nI i).toNatClampNeg = i := nI_clamp (by omega)
    refine pk_le ((T 0 6).length + (T 0 7).length) i (fun z => absurd z (by omega)) (fun _ => ⟨pk_in i 80 (by omega), pk_in i 80 (by omega), ?_⟩) (hx := p2)
    rw [ei]
    by_cases hi6 : i < (T 0 6).length
    · rw [(c6 i hi6).1, (c6 i hi6).2]
      have t := p7 6 (by omega) _ (pq_gm hi6)
      refine pq_partners (by omega) hc h t.1 t.2 hb ?_
      rw [← g6 i hi6]
      exact nm_r (nI_add _ _) (nm_r (nI_1 i) hw')
    · obtain ⟨m, rfl⟩ : ∃ m, i = (T 0 6).length + m := ⟨i - (T 0 6).length, by omega⟩
      rw [(c7 m (by omega)).1, (c7 m (by omega)).2]
      have t := p7 7 (by omega) _ (pq_gm (show m < (T 0 7).length by omega))
      refine pq_partners (by omega) hc h t.1 t.2 hb ?_
      rw [← g7 m]
      exact nm_r (nI_add _ _) (nm_r (nI_1 _) hw')
theorem pq_pairs {post : Int32 → Prop} {k : Nat} (hk : k < 16) (h : pq_P c T a1 a2 a3 a4 a5) (H : post (nI ((T 0 k).length * (T 1 k).length))) : wpX_pairs post (o, ll, hh, a1, a2, a3, a4, a5, a6, a7, a8, a9, a10, a11) (nI k) := by
  unfold wpX_pairs
  refine pq_isKey hk ?_
  refine br_f (by decide) ?_
  exact pq_pairsOf hk h H
theorem pq_sums {post : Int32 → Prop} {k : Nat} (hk : k < 16) (h : pq_P c T a1 a2 a3 a4 a5) (H : post (pq_z ((T 0 k).sum * (T 1 k).sum))) : wpX_sum post (o, ll, hh, a1, a2, a3, a4, a5, a6, a7, a8, a9, a10, a11) (nI k) := by
  have g0 : a5 (nI k).toNatClampNeg = pq_z (T 0 k).sum := by
    have t := (h 0 (by omega)).2.2.2.2.1 k hk
    rw [show 16 * 0 + k = k by omega] at t
    rw [nI_clamp (by omega), t]
  have s16 : (16 : Int32) + nI k = nI (16 + k) := nI_add 16 k
  have g1 : a5 ((16 : Int32) + nI k).toNatClampNeg = pq_z (T 1 k).sum := by
    have t := (h 1 (by omega)).2.2.2.2.1 k hk
    rw [show 16 * 1 + k = 16 + k by omega] at t
    rw [s16, nI_clamp (by omega), t]
  unfold wpX_sum
  refine pq_isKey hk ?_
  refine br_f (by decide) ⟨vp_in_nI (by omega) (by omega), by rw [s16]; exact vp_in_nI (by omega) (by omega), ?_⟩
  rw [g0, g1, pq_mul]
  exact H
theorem pq_nil2 {L K : List Int} (h : L.length * K.length = 0) : ∀ x, x ∈ L → ∀ y, y ∈ K → False := by
  intro x hx y hy
  rcases Nat.mul_eq_zero.mp h with e | e
  · rw [List.eq_nil_of_length_eq_zero e] at hx
    exact absurd hx (by simp)
  · rw [List.eq_nil_of_length_eq_zero e] at hy
    exact absurd hy (by simp)
theorem pq_posL {L K : List Int} (h : ¬ L.length * K.length = 0) : 0 < L.length ∧ 0 < K.length := by
  constructor
  · rcases Nat.eq_zero_or_pos L.length with e | e
    · rw [e, Nat.zero_mul] at h
      exact absurd rfl h
    · exact e
  · rcases Nat.eq_zero_or_pos K.length with e | e
    · rw [e, Nat.mul_zero] at h
      exact absurd rfl h
    · exact e
theorem pq_least {post : Int32 → St2 → Prop} {k : Nat} (hk : k < 16) (hc : c ≤ 30) (h : pq_P c T a1 a2 a3 a4 a5)
    (H : ∀ (z : Int) (l' h' : Int32), pq_lz (T 0 k) (T 1 k) z → post (pq_z z) (o, l', h', a1, a2, a3, a4, a5, a6, a7, a8, a9, a10, a11)) :
    wpX_least post (o, ll, hh, a1, a2, a3, a4, a5, a6, a7, a8, a9, a10, a11) (nI k) := by
  have l0 := pq_len (s := 0) (by omega) hk h
  have l1 := pq_len (s := 1) (by omega) hk h
  have hm : (T 0 k).length * (T 1 k).length ≤ 30 * 30 := Nat.mul_le_mul (by omega) (by omega)
  unfold wpX_least
  refine pq_isKey hk ?_
  refine br_f (by decide) ?_
  refine pq_pairsOf hk h ?_
  refine pk_eq ((T 0 k).length * (T 1 k).length) 0 (fun z => ?_) (fun z => ?_)
  · exact H 10000 ll hh ⟨fun x hx y hy => absurd (pq_nil2 z x hx y hy) id, Or.inr ⟨pq_nil2 z, rfl⟩⟩
  · have hp := pq_posL z
    exact pq_extremes hk hc h hp.1 hp.2 (fun x w hx hw => H x _ _ hx)
theorem pq_greatest {post : Int32 → St2 → Prop} {k : Nat} (hk : k < 16) (hc : c ≤ 30) (h : pq_P c T a1 a2 a3 a4 a5)
    (H : ∀ (z : Int) (l' h' : Int32), pq_gz (T 0 k) (T 1 k) z → post (pq_z z) (o, l', h', a1, a2, a3, a4, a5, a6, a7, a8, a9, a10, a11)) :
    wpX_greatest post (o, ll, hh, a1, a2, a3, a4, a5, a6, a7, a8, a9, a10, a11) (nI k) := by
  have l0 := pq_len (s := 0) (by omega) hk h
  have l1 := pq_len (s := 1) (by omega) hk h
  have hm : (T 0 k).length * (T 1 k).length ≤ 30 * 30 := Nat.mul_le_mul (by omega) (by omega)
  unfold wpX_greatest
  refine pq_isKey hk ?_
  refine br_f (by decide) ?_
  refine pq_pairsOf hk h ?_
  refine pk_eq ((T 0 k).length * (T 1 k).length) 0 (fun z => ?_) (fun z => ?_)
  · exact H (-10000) ll hh ⟨fun x hx y hy => absurd (pq_nil2 z x hx y hy) id, Or.inr ⟨pq_nil2 z, rfl⟩⟩
  · have hp := pq_posL z
    exact pq_extremes hk hc h hp.1 hp.2 (fun x w hx hw => H w _ _ hw)
theorem pq_isResult {post : Int32 → Prop} {i r : Nat} (hi : i < r) (hr : r ≤ 16) (H : post 1) : wpX_isResult post (nI r, ll, hh, a1, a2, a3, a4, a5, a6, a7, a8, a9, a10, a11) (nI i) :=
  pk_lt i 0 (fun z => absurd z (by omega)) (fun _ => pk_le r i (fun z => absurd z (by omega)) (fun _ => H))
theorem pq_resK {post : Int32 → Prop} {i r : Nat} (hi : i < r) (hr : r ≤ 16) (H : post (a7 i)) : wpX_resultKey post (nI r, ll, hh, a1, a2, a3, a4, a5, a6, a7, a8, a9, a10, a11) (nI i) := by
  unfold wpX_resultKey
  refine pq_isResult hi hr ?_
  refine br_f (by decide) ⟨vp_in_nI (by omega) (by omega), ?_⟩
  rw [nI_clamp (by omega)]
  exact H
theorem pq_resP {post : Int32 → Prop} {i r : Nat} (hi : i < r) (hr : r ≤ 16) (H : post (a8 i)) : wpX_resultPairs post (nI r, ll, hh, a1, a2, a3, a4, a5, a6, a7, a8, a9, a10, a11) (nI i) := by
  unfold wpX_resultPairs
  refine pq_isResult hi hr ?_
  refine br_f (by decide) ⟨vp_in_nI (by omega) (by omega), ?_⟩
  rw [nI_clamp (by omega)]
  exact H
theorem pq_resS {post : Int32 → Prop} {i r : Nat} (hi : i < r) (hr : r ≤ 16) (H : post (a9 i)) : wpX_resultSum post (nI r, ll, hh, a1, a2, a3, a4, a5, a6, a7, a8, a9, a10, a11) (nI i) := by
  unfold wpX_resultSum
  refine pq_isResult hi hr ?_
  refine br_f (by decide) ⟨vp_in_nI (by omega) (by omega), ?_⟩
  rw [nI_clamp (by omega)]
  exact H
theorem pq_resL {post : Int32 → Prop} {i r : Nat} (hi : i < r) (hr : r ≤ 16) (H : post (a10 i)) : wpX_resultLeast post (nI r, ll, hh, a1, a2, a3, a4, a5, a6, a7, a8, a9, a10, a11) (nI i) := by
  unfold wpX_resultLeast
  refine pq_isResult hi hr ?_
  refine br_f (by decide) ⟨vp_in_nI (by omega) (by omega), ?_⟩
  rw [nI_clamp (by omega)]
  exact H
theorem pq_resG {post : Int32 → Prop} {i r : Nat} (hi : i < r) (hr : r ≤ 16) (H : post (a11 i)) : wpX_resultGreatest post (nI r, ll, hh, a1, a2, a3, a4, a5, a6, a7, a8, a9, a10, a11) (nI i) := by
  unfold wpX_resultGreatest
  refine pq_isResult hi hr ?_
  refine br_f (by decide) ⟨vp_in_nI (by omega) (by omega), ?_⟩
  rw [nI_clamp (by omega)]
  exact H
theorem pq_bandY {post : Int32 → Prop} (hs : ∀ j, 4 ≤ j → j < 8 → ¬ a6 j = 0 ∧ ¬ a6 (16 + j) = 0) (H : post 1) : wpX_isBandFinished post (o, ll, hh, a1, a2, a3, a4, a5, a6, a7, a8, a9, a10, a11) 1 := by
  refine nm_r (e' := nI 4) rfl ?_
  refine pk_loop (σ := Unit) (fun n i _ => wX_isBandFinished_4 post 1 o ll hh a1 a2 a3 a4 a5 a6 a7 a8 a9 a10 a11 n (nI i)) (fun i _ => 4 ≤ i) 8 4 () (by omega) (Nat.le_refl _) ?_ ?_
  · intro n _ _
    exact pk_le 8 8 (fun _ => H) (fun z => absurd z (by omega))
  · intro n i _ hi h4 hw
    have s16 : (16 : Int32) + nI i = nI (16 + i) := nI_add 16 i
    obtain ⟨t1, t2⟩ := hs i h4 hi
    refine pk_le 8 i (fun z => absurd z (by omega)) (fun _ => ⟨vp_in_nI (by omega) (by omega), br_f ?_ ⟨by rw [s16]; exact vp_in_nI (by omega) (by omega), br_f ?_ (nm_r (nI_1 i) (hw () (by omega)))⟩⟩)
    · rw [nI_clamp (by omega)]
      exact t1
    · rw [s16, nI_clamp (by omega)]
      exact t2
theorem pq_bandN {post : Int32 → Prop} (hs : a6 4 = 0 ∨ a6 20 = 0) (H : post 0) : wpX_isBandFinished post (o, ll, hh, a1, a2, a3, a4, a5, a6, a7, a8, a9, a10, a11) 1 := by
  refine nm_r (e' := nI 4) rfl ⟨1, ?_⟩
  have s16 : (16 : Int32) + nI 4 = nI 20 := rfl
  refine pk_le 8 4 (fun z => absurd z (by omega)) (fun _ => ⟨vp_in_nI (by omega) (by omega), br_c (fun _ => H) (fun z => ⟨by rw [s16]; exact vp_in_nI (by omega) (by omega), br_t ?_ H⟩)⟩)
  rw [nI_clamp (by omega)] at z
  rw [s16, nI_clamp (by omega)]
  rcases hs with e | e
  · exact absurd e z
  · exact e
def pq_bs (f : Nat → Int32) : Nat → Int32
  | 0 => 0
  | n + 1 => pq_bs f n + f n
theorem pq_bandSumN {post : Int32 → Prop} (hs : a6 4 = 0 ∨ a6 20 = 0) (H : post (-2000000)) : wpX_bandSum post (o, ll, hh, a1, a2, a3, a4, a5, a6, a7, a8, a9, a10, a11) 1 := by
  unfold wpX_bandSum
  refine br_f (by decide) (br_t (by decide) ?_)
  refine pq_bandN hs ?_
  exact br_t rfl H
theorem pq_bandSumY {post : Int32 → Prop} {r : Nat} (hr : r ≤ 16) (hs : ∀ j, 4 ≤ j → j < 8 → ¬ a6 j = 0 ∧ ¬ a6 (16 + j) = 0) (hk : ∀ i, i < r → a7 i >>> ((2 : Int32) &&& 31) = 1) (H : post (pq_bs a9 r)) : wpX_bandSum post (nI r, ll, hh, a1, a2, a3, a4, a5, a6, a7, a8, a9, a10, a11) 1 := by
  unfold wpX_bandSum
  refine br_f (by decide) (br_t (by decide) ?_)
  refine pq_bandY hs ?_
  refine br_f (by decide) ?_
  refine pk_loop (σ := Unit) (fun n i _ => wX_bandSum_27 post 1 (nI r) ll hh a1 a2 a3 a4 a5 a6 a7 a8 a9 a10 a11 n (pq_bs a9 i) (nI i)) (fun _ _ => True) r 0 () (by omega) trivial ?_ ?_
  · intro n _ _
    exact pk_le r r (fun _ => H) (fun z => absurd z (by omega))
  · intro n i _ hi _ hw
    have ei : (nI i).toNatClampNeg = i := nI_clamp (by omega)
    refine pk_le r i (fun z => absurd z (by omega)) (fun _ => ⟨vp_in_nI (by omega) (by omega), br_t ?_ ⟨vp_in_nI (by omega) (by omega), nm_r (e' := pq_bs a9 (i + 1)) ?_ (nm_r (nI_1 i) (hw () trivial))⟩⟩)
    · rw [ei]
      exact hk i hi
    · rw [ei]
      rfl
end
end
section
/-! the law's own side: the parts of the script, the lists that they feed, the list of products, the running answers -/
def pq_v (x : Nat) : Int := 3 * (((x / 4 : Nat) : Int) - 4) + 1
theorem pq_v_in {x : Nat} (h : x < 32) : -50 ≤ pq_v x ∧ pq_v x ≤ 50 := by
  unfold pq_v
  omega
def pq_X (D : Nat → Nat) (s k : Nat) : Nat → List Int
  | 0 => []
  | i + 1 => if D i % 2 = s ∧ 6 + D i / 2 % 2 = k then pq_X D s k i ++ [pq_v (D i)] else pq_X D s k i
theorem pq_X_y {D : Nat → Nat} {s k i : Nat} (h : D i % 2 = s ∧ 6 + D i / 2 % 2 = k) : pq_X D s k (i + 1) = pq_X D s k i ++ [pq_v (D i)] := if_pos h
theorem pq_X_n {D : Nat → Nat} {s k i : Nat} (h : ¬ (D i % 2 = s ∧ 6 + D i / 2 % 2 = k)) : pq_X D s k (i + 1) = pq_X D s k i := if_neg h
theorem pq_X_in {D : Nat → Nat} (hD : ∀ i, D i < 32) {s k : Nat} : ∀ i v, v ∈ pq_X D s k i → -50 ≤ v ∧ v ≤ 50 := by
  intro i
  induction i with
  | zero =>
    intro v hv
    exact absurd hv (by simp [pq_X])
  | succ i ih =>
    intro v hv
    by_cases c : D i % 2 = s ∧ 6 + D i / 2 % 2 = k
    · rw [pq_X_y c] at hv
      rcases List.mem_append.mp hv with z | z
      · exact ih v z
      · rw [List.mem_singleton.mp z]
        exact pq_v_in (hD i)
    · rw [pq_X_n c] at hv
      exact ih v hv
theorem pq_X_e {D : Nat → Nat} {s k : Nat} (h6 : k ≠ 6) (h7 : k ≠ 7) : ∀ i, pq_X D s k i = [] := by
  intro i
  induction i with
  | zero => rfl
  | succ i ih =>
    rw [pq_X_n (by omega)]
    exact ih
def pq_pr (L K : List Int) : List Int := L.flatMap (fun x => K.map (fun y => x * y))
theorem pq_pr_nil (K : List Int) : pq_pr [] K = [] := rfl
theorem pq_pr_cons (x : Int) (L K : List Int) : pq_pr (x :: L) K = K.map (fun y => x * y) ++ pq_pr L K := by
  unfold pq_pr
  rw [List.flatMap_cons]
theorem pq_pr_snoc (x : Int) (L K : List Int) : pq_pr (L ++ [x]) K = pq_pr L K ++ K.map (fun y => x * y) := by
  induction L with
  | nil =>
    show pq_pr [x] K = _
    rw [pq_pr_cons, pq_pr_nil, List.append_nil, List.nil_append]
  | cons a L ih =>
    rw [List.cons_append, pq_pr_cons, ih, pq_pr_cons, List.append_assoc]
theorem pq_pr_len (L K : List Int) : (pq_pr L K).length = L.length * K.length := by
  induction L with
  | nil => simp [pq_pr_nil]
  | cons x L ih =>
    rw [pq_pr_cons, List.length_append, List.length_map, ih, List.length_cons, Nat.succ_mul, Nat.add_comm]
theorem pq_sum_map (x : Int) (K : List Int) : (K.map (fun y => x * y)).sum = x * K.sum := by
  induction K with
  | nil => simp
  | cons y K ih => rw [List.map_cons, List.sum_cons, List.sum_cons, ih, Int.mul_add]
theorem pq_pr_sum (L K : List Int) : (pq_pr L K).sum = L.sum * K.sum := by
  induction L with
  | nil => simp [pq_pr_nil]
  | cons x L ih =>
    rw [pq_pr_cons, List.sum_append_int, ih, pq_sum_map, List.sum_cons, Int.add_mul]
theorem pq_pr_cnt (bd : Int) (L K : List Int) : (pq_pr L K).countP (fun m => decide (bd ≤ m)) = (L.map (fun x => pq_c K x bd)).sum := by
  induction L with
  | nil => simp [pq_pr_nil]
  | cons x L ih =>
    rw [pq_pr_cons, List.countP_append, ih, List.map_cons, List.sum_cons, List.countP_map]
    rfl
theorem pq_pr_mem {L K : List Int} {m : Int} : m ∈ pq_pr L K ↔ ∃ x, x ∈ L ∧ ∃ y, y ∈ K ∧ m = x * y := by
  unfold pq_pr
  rw [List.mem_flatMap]
  constructor
  · rintro ⟨x, hx, hm⟩
    obtain ⟨y, hy, e⟩ := List.mem_map.mp hm
    exact ⟨x, hx, y, hy, e.symm⟩
  · rintro ⟨x, hx, y, hy, e⟩
    exact ⟨x, hx, List.mem_map.mpr ⟨y, hy, e.symm⟩⟩
theorem pq_c_le (K : List Int) (bd : Int) (L : List Int) : (L.map (fun x => pq_c K x bd)).sum ≤ L.length * K.length := by
  rw [← pq_pr_cnt, ← pq_pr_len]
  exact List.countP_le_length
theorem pq_c_perm {L L' K K' : List Int} (bd : Int) (hL : L.Perm L') (hK : K.Perm K') : (L.map (fun x => pq_c K x bd)).sum = (L'.map (fun x => pq_c K' x bd)).sum := by
  have e : (fun x => pq_c K x bd) = (fun x => pq_c K' x bd) := by
    funext x
    exact hK.countP_eq _
  rw [e]
  exact pq_nsum_perm (hL.map _)
/-- the running answers over the products M so far -/
def pq_A (bd : Int) (M : List Int) (x5 x9 x10 x11 x12 : Int32) : Prop :=
  x5 = nI (M.countP (fun m => decide (bd ≤ m))) ∧ x9 = nI M.length ∧ x10 = pq_z M.sum ∧
  (∃ z : Int, x11 = pq_z z ∧ (∀ m, m ∈ M → z ≤ m) ∧ (z ∈ M ∨ (M = [] ∧ z = 10000))) ∧
  (∃ z : Int, x12 = pq_z z ∧ (∀ m, m ∈ M → m ≤ z) ∧ (z ∈ M ∨ (M = [] ∧ z = -10000))) ∧ (∀ m, m ∈ M → -2500 ≤ m ∧ m ≤ 2500)
theorem pq_A_0 (bd : Int) : pq_A bd [] 0 0 0 10000 (-10000) :=
  ⟨rfl, rfl, rfl, ⟨10000, by rfl, fun m hm => absurd hm (by simp), Or.inr ⟨rfl, rfl⟩⟩, ⟨-10000, by rfl, fun m hm => absurd hm (by simp), Or.inr ⟨rfl, rfl⟩⟩, fun m hm => absurd hm (by simp)⟩
theorem pq_A_lz {bd : Int} {L K : List Int} {x5 x9 x10 x11 x12 : Int32} (h : pq_A bd (pq_pr L K) x5 x9 x10 x11 x12) : ∃ z, x11 = pq_z z ∧ pq_lz L K z := by
  obtain ⟨_, _, _, ⟨z, e, h1, h2⟩, _⟩ := h
  refine ⟨z, e, fun x hx y hy => h1 _ (pq_pr_mem.mpr ⟨x, hx, y, hy, rfl⟩), ?_⟩
  rcases h2 with t | ⟨t, e⟩
  · exact Or.inl (pq_pr_mem.mp t)
  · refine Or.inr ⟨fun x hx y hy => ?_, e⟩
    have q : x * y ∈ pq_pr L K := pq_pr_mem.mpr ⟨x, hx, y, hy, rfl⟩
    rw [t] at q
    exact absurd q (by simp)
theorem pq_A_gz {bd : Int} {L K : List Int} {x5 x9 x10 x11 x12 : Int32} (h : pq_A bd (pq_pr L K) x5 x9 x10 x11 x12) : ∃ z, x12 = pq_z z ∧ pq_gz L K z := by
  obtain ⟨_, _, _, _, ⟨z, e, h1, h2⟩, _⟩ := h
  refine ⟨z, e, fun x hx y hy => h1 _ (pq_pr_mem.mpr ⟨x, hx, y, hy, rfl⟩), ?_⟩
  rcases h2 with t | ⟨t, e⟩
  · exact Or.inl (pq_pr_mem.mp t)
  · refine Or.inr ⟨fun x hx y hy => ?_, e⟩
    have q : x * y ∈ pq_pr L K := pq_pr_mem.mpr ⟨x, hx, y, hy, rfl⟩
    rw [t] at q
    exact absurd q (by simp)
/-! one more product -/
theorem pq_mn1 {M : List Int} {z m : Int} (h1 : ∀ n, n ∈ M → z ≤ n) (h2 : z ∈ M ∨ (M = [] ∧ z = 10000)) (hm : m ≤ 2500) :
    (z ≤ m → (∀ n, n ∈ M ++ [m] → z ≤ n) ∧ (z ∈ M ++ [m] ∨ (M ++ [m] = [] ∧ z = 10000))) ∧ (m < z → (∀ n, n ∈ M ++ [m] → m ≤ n) ∧ (m ∈ M ++ [m] ∨ (M ++ [m] = [] ∧ m = 10000))) := by
  constructor
  · intro hz
    refine ⟨fun n hn => ?_, Or.inl ?_⟩
    · rcases List.mem_append.mp hn with t | t
      · exact h1 n t
      · rw [List.mem_singleton.mp t]
        exact hz
    · rcases h2 with t | ⟨_, t⟩
      · exact List.mem_append.mpr (Or.inl t)
      · omega
  · intro hz
    refine ⟨fun n hn => ?_, Or.inl (List.mem_append.mpr (Or.inr (List.mem_singleton.mpr rfl)))⟩
    rcases List.mem_append.mp hn with t | t
    · have := h1 n t
      omega
    · rw [List.mem_singleton.mp t]
      exact Int.le_refl m
theorem pq_mx1 {M : List Int} {z m : Int} (h1 : ∀ n, n ∈ M → n ≤ z) (h2 : z ∈ M ∨ (M = [] ∧ z = -10000)) (hm : -2500 ≤ m) :
    (m ≤ z → (∀ n, n ∈ M ++ [m] → n ≤ z) ∧ (z ∈ M ++ [m] ∨ (M ++ [m] = [] ∧ z = -10000))) ∧ (z < m → (∀ n, n ∈ M ++ [m] → n ≤ m) ∧ (m ∈ M ++ [m] ∨ (M ++ [m] = [] ∧ m = -10000))) := by
  constructor
  · intro hz
    refine ⟨fun n hn => ?_, Or.inl ?_⟩
    · rcases List.mem_append.mp hn with t | t
      · exact h1 n t
      · rw [List.mem_singleton.mp t]
        exact hz
    · rcases h2 with t | ⟨_, t⟩
      · exact List.mem_append.mpr (Or.inl t)
      · omega
  · intro hz
    refine ⟨fun n hn => ?_, Or.inl (List.mem_append.mpr (Or.inr (List.mem_singleton.mpr rfl)))⟩
    rcases List.mem_append.mp hn with t | t
    · have := h1 n t
      omega
    · rw [List.mem_singleton.mp t]
      exact Int.le_refl m
end
section
/-! the law's loops over the products -/
theorem pq_val {post : Int32 → Prop} {x : Nat} (hx : x < 32) (H : post (pq_z (pq_v x))) : wpL_value post () (nI x) := by
  have e : (3 : Int32) * (nI x >>> ((2 : Int32) &&& 31) - 4) + 1 = pq_z (pq_v x) := by
    rw [pk_shrN (by omega) _ 2 (by decide), pq_nz, show (3 : Int32) = pq_z 3 from by rfl, show (4 : Int32) = pq_z 4 from by rfl, show (1 : Int32) = pq_z 1 from by rfl, pq_sub, pq_mul, pq_add]
    rfl
  unfold wpL_value
  rw [e]
  exact H
theorem pq_s1 {x : Nat} (hx : x < 32) : nI x &&& 1 = nI (x % 2) := pk_andN (by omega) 1 (by decide)
theorem pq_k1 {x : Nat} (hx : x < 32) : (6 : Int32) + ((nI x >>> ((1 : Int32) &&& 31)) &&& 1) = nI (6 + x / 2 % 2) := by
  rw [pk_shrN (by omega) _ 1 (by decide), pk_andN (by omega) 1 (by decide)]
  exact nI_add 6 _
theorem pq_part (p q : Int32) : ∃ D : Nat → Nat, (∀ i, D i < 32) ∧ ∀ i, i < 8 → ∀ post : Int32 → Prop, post (nI (D i)) → wpL_part post () p q (nI i) := by
  refine ⟨fun i => if i < 4 then (p >>> (((5 : Int32) * nI i) &&& 31)).toBitVec.toNat % 2 ^ 5 else (q >>> ((((5 : Int32) * nI i) - 20) &&& 31)).toBitVec.toNat % 2 ^ 5, fun i => ?_, fun i hi post H => ?_⟩
  · show (if i < 4 then _ else _) < 32
    split
    · exact Nat.mod_lt _ (by decide)
    · exact Nat.mod_lt _ (by decide)
  · refine pk_le 4 i (fun z => ?_) (fun z => ?_)
    · rw [pk_and _ 5 (by decide)]
      have H' : post (nI (if i < 4 then (p >>> (((5 : Int32) * nI i) &&& 31)).toBitVec.toNat % 2 ^ 5 else (q >>> ((((5 : Int32) * nI i) - 20) &&& 31)).toBitVec.toNat % 2 ^ 5)) := H
      rw [if_neg (by omega)] at H'
      exact H'
    · rw [pk_and _ 5 (by decide)]
      have H' : post (nI (if i < 4 then (p >>> (((5 : Int32) * nI i) &&& 31)).toBitVec.toNat % 2 ^ 5 else (q >>> ((((5 : Int32) * nI i) - 20) &&& 31)).toBitVec.toNat % 2 ^ 5)) := H
      rw [if_pos z] at H'
      exact H'
def pq_row (D : Nat → Nat) (k i j : Nat) : List Int := if D i % 2 = 0 ∧ 6 + D i / 2 % 2 = k then pq_pr (pq_X D 0 k i) (pq_X D 1 k 8) ++ (pq_X D 1 k j).map (fun y => pq_v (D i) * y) else pq_pr (pq_X D 0 k i) (pq_X D 1 k 8)
theorem pq_row0 (D : Nat → Nat) (k i : Nat) : pq_row D k i 0 = pq_pr (pq_X D 0 k i) (pq_X D 1 k 8) := by
  unfold pq_row
  split
  · show _ ++ [] = _
    rw [List.append_nil]
  · rfl
theorem pq_row8 (D : Nat → Nat) (k i : Nat) : pq_row D k i 8 = pq_pr (pq_X D 0 k (i + 1)) (pq_X D 1 k 8) := by
  unfold pq_row
  by_cases c : D i % 2 = 0 ∧ 6 + D i / 2 % 2 = k
  · rw [if_pos c, pq_X_y c, pq_pr_snoc]
  · rw [if_neg c, pq_X_n c]
theorem pq_rowy {D : Nat → Nat} {k i j : Nat} (ci : D i % 2 = 0 ∧ 6 + D i / 2 % 2 = k) (cj : D j % 2 = 1 ∧ 6 + D j / 2 % 2 = k) : pq_row D k i (j + 1) = pq_row D k i j ++ [pq_v (D i) * pq_v (D j)] := by
  unfold pq_row
  rw [if_pos ci, if_pos ci, pq_X_y cj, List.map_append, List.append_assoc]
  rfl
theorem pq_rown {D : Nat → Nat} {k i j : Nat} (h : ¬ ((D i % 2 = 0 ∧ 6 + D i / 2 % 2 = k) ∧ (D j % 2 = 1 ∧ 6 + D j / 2 % 2 = k))) : pq_row D k i (j + 1) = pq_row D k i j := by
  unfold pq_row
  by_cases c : D i % 2 = 0 ∧ 6 + D i / 2 % 2 = k
  · rw [if_pos c, if_pos c, pq_X_n (fun z => h ⟨c, z⟩)]
  · rw [if_neg c, if_neg c]
section
variable {post : Int32 → St0 → Prop} {mc ms kc ks : Nat} {J80 : Int32 → Int32 → Int32 → Int32 → Int32 → Int32 → Int32 → (Nat → Int32) → (Nat → Int32) → (Nat → Int32) → (Nat → Int32) → (Nat → Int32) → (Nat → Int32) → (Nat → Int32) → (Nat → Int32) → (Nat → Int32) → (Nat → Int32) → (Nat → Int32) → Prop} {J106 J116 : Int32 → Int32 → Int32 → Int32 → Int32 → Int32 → Prop}
variable {x0 x1 x3 x5 x6 x7 x8 x9 x10 x11 x12 x13 : Int32} {bd : Int} {D : Nat → Nat}
variable {o ll hh : Int32} {a1 a2 a3 a4 a5 a6 a7 a8 a9 a10 a11 : Nat → Int32}
theorem pq_189y {x y j : Nat} {M : List Int} (hx : x < 32) (hy : y < 32) (hb : pq_r bd) (hA : pq_A bd M x5 x9 x10 x11 x12)
    (H : ∀ y5 y9 y10 y11 y12 : Int32, pq_A bd (M ++ [pq_v x * pq_v y]) y5 y9 y10 y11 y12 → J116 y5 y9 y10 y11 y12 (nI (j + 1))) :
    wL_lawOf_189 post mc ms J80 J106 J116 x0 x1 (pq_z bd) x3 x5 x6 x7 x8 x9 x10 x11 x12 x13 (nI j) (nI x) (nI y) 1 kc ks o ll hh a1 a2 a3 a4 a5 a6 a7 a8 a9 a10 a11 := by
  unfold wL_lawOf_189
  refine pq_val hx ?_
  refine pq_val hy ?_
  refine nm_r (pq_mul _ _) ?_
  have hm := pq_small (pq_v_in hx).1 (pq_v_in hx).2 (pq_v_in hy).1 (pq_v_in hy).2
  generalize pq_v x * pq_v y = m at *
  obtain ⟨e5, e9, e10, ⟨z, e11, z1, z2⟩, ⟨w, e12, w1, w2⟩, hr⟩ := hA
  subst e5 e9 e10 e11 e12
  have mr : pq_r m := ⟨by omega, by omega⟩
  have zr : pq_r z := by
    rcases z2 with t | ⟨_, t⟩
    · have := hr z t
      exact ⟨by omega, by omega⟩
    · exact ⟨by omega, by omega⟩
  have wr : pq_r w := by
    rcases w2 with t | ⟨_, t⟩
    · have := hr w t
      exact ⟨by omega, by omega⟩
    · exact ⟨by omega, by omega⟩
  refine br_f (by decide) ?_
  refine nm_r (nI_1 _) (nm_r (pq_add _ _) ?_)
  have tail : ∀ z' w' : Int, ((∀ n, n ∈ M ++ [m] → z' ≤ n) ∧ (z' ∈ M ++ [m] ∨ (M ++ [m] = [] ∧ z' = 10000))) → ((∀ n, n ∈ M ++ [m] → n ≤ w') ∧ (w' ∈ M ++ [m] ∨ (M ++ [m] = [] ∧ w' = -10000))) →
      wL_lawOf_241 post mc ms J80 J106 J116 x0 x1 (pq_z bd) x3 (nI (M.countP (fun m => decide (bd ≤ m)))) x6 x7 x8 (nI (M.length + 1)) (pq_z (M.sum + m)) (pq_z z') (pq_z w') x13 (nI j) (pq_z m) kc ks o ll hh a1 a2 a3 a4 a5 a6 a7 a8 a9 a10 a11 := by
    intro z' w' hz hw
    have HH : ∀ y5, y5 = nI ((M ++ [m]).countP (fun m => decide (bd ≤ m))) → J116 y5 (nI (M.length + 1)) (pq_z (M.sum + m)) (pq_z z') (pq_z w') (nI (j + 1)) := by
      intro y5 e
      refine H _ _ _ _ _ ⟨e, ?_, ?_, ⟨z', rfl, hz⟩, ⟨w', rfl, hw⟩, fun n hn => ?_⟩
      · rw [List.length_append]
        rfl
      · rw [List.sum_append_int]
        simp
      · rcases List.mem_append.mp hn with t | t
        · exact hr n t
        · rw [List.mem_singleton.mp t]
          exact hm
    refine pq_blt m bd (fun t => nm_r (nI_1 j) (HH _ ?_)) (fun t => nm_r (nI_1 _) (nm_r (nI_1 j) (HH _ ?_))) mr hb
    · rw [List.countP_append, List.countP_cons_of_neg (by rw [decide_eq_true_iff]; omega)]
      rfl
    · rw [List.countP_append, List.countP_cons_of_pos (by rw [decide_eq_true_iff]; omega)]
      rfl
  have n1 := pq_mn1 z1 z2 hm.2
  have n2 := pq_mx1 w1 w2 hm.1
  refine pq_ble z m (fun t => ?_) (fun t => ?_) zr mr
  · exact pq_ble m w (fun t2 => tail z w (n1.1 t) (n2.1 t2)) (fun t2 => tail z m (n1.1 t) (n2.2 t2)) mr wr
  · exact pq_ble m w (fun t2 => tail m w (n1.2 t) (n2.1 t2)) (fun t2 => tail m m (n1.2 t) (n2.2 t2)) mr wr
theorem pq_188 {x2 : Int32} {x y j : Nat} (hx : x < 32) (hy : y < 32) (H : J116 x5 x9 x10 x11 x12 (nI (j + 1))) :
    wL_lawOf_188 post mc ms J80 J106 J116 x0 x1 x2 x3 x5 x6 x7 x8 x9 x10 x11 x12 x13 (nI j) (nI x) (nI y) kc ks o ll hh a1 a2 a3 a4 a5 a6 a7 a8 a9 a10 a11 := by
  unfold wL_lawOf_188 wL_lawOf_189
  refine pq_val hx ?_
  refine pq_val hy ?_
  exact nm_e (br_t rfl (nm_r (nI_1 j) H))
theorem pq_116 {k i : Nat} (hk : k < 16) (hD : ∀ i, D i < 32) (hP : ∀ i, i < 8 → ∀ post : Int32 → Prop, post (nI (D i)) → wpL_part post () x0 x1 (nI i)) (hb : pq_r bd) (hi : i < 8) (hA : pq_A bd (pq_row D k i 0) x5 x9 x10 x11 x12)
    (H : ∀ y5 y9 y10 y11 y12 : Int32, pq_A bd (pq_row D k i 8) y5 y9 y10 y11 y12 → J106 y5 y9 y10 y11 y12 (nI (i + 1))) :
    ∃ n, wL_lawOf_116 post mc ms J80 J106 x0 x1 (pq_z bd) x3 x6 x7 (nI k) (nI i) kc ks o ll hh a1 a2 a3 a4 a5 a6 a7 a8 a9 a10 a11 n x5 x9 x10 x11 x12 0 := by
  refine pk_loop (σ := Int32 × Int32 × Int32 × Int32 × Int32) (fun n j s => wL_lawOf_116 post mc ms J80 J106 x0 x1 (pq_z bd) x3 x6 x7 (nI k) (nI i) kc ks o ll hh a1 a2 a3 a4 a5 a6 a7 a8 a9 a10 a11 n s.1 s.2.1 s.2.2.1 s.2.2.2.1 s.2.2.2.2 (nI j)) (fun j s => pq_A bd (pq_row D k i j) s.1 s.2.1 s.2.2.1 s.2.2.2.1 s.2.2.2.2) 8 0 (x5, x9, x10, x11, x12) (by omega) hA ?_ ?_
  · rintro n ⟨y5, y9, y10, y11, y12⟩ h
    exact pk_le 8 8 (fun _ => nm_r (nI_1 i) (H y5 y9 y10 y11 y12 h)) (fun z => absurd z (by omega))
  · rintro n j ⟨y5, y9, y10, y11, y12⟩ hj h hw
    have hdi := hD i
    have hdj := hD j
    refine pk_le 8 j (fun z => absurd z (by omega)) (fun _ => ?_)
    refine hP i hi _ ?_
    refine hP j hj _ ?_
    have no : ¬ ((D i % 2 = 0 ∧ 6 + D i / 2 % 2 = k) ∧ (D j % 2 = 1 ∧ 6 + D j / 2 % 2 = k)) → wL_lawOf_188 post mc ms J80 J106 (wL_lawOf_116 post mc ms J80 J106 x0 x1 (pq_z bd) x3 x6 x7 (nI k) (nI i) kc ks o ll hh a1 a2 a3 a4 a5 a6 a7 a8 a9 a10 a11 n) x0 x1 (pq_z bd) x3 y5 x6 x7 (nI k) y9 y10 y11 y12 (nI i) (nI j) (nI (D i)) (nI (D j)) kc ks o ll hh a1 a2 a3 a4 a5 a6 a7 a8 a9 a10 a11 := by
      intro c
      refine pq_188 hdi hdj ?_
      exact hw (y5, y9, y10, y11, y12) (by rw [pq_rown c]; exact h)
    refine pk_eq (D i % 2) 0 (fun t1 => ?_) (fun t1 => no (by omega)) (hx := pq_s1 hdi)
    refine pk_eq (D j % 2) 1 (fun t2 => ?_) (fun t2 => no (by omega)) (hx := pq_s1 hdj)
    refine pk_eq (6 + D i / 2 % 2) k (fun t3 => ?_) (fun t3 => no (by omega)) (hx := pq_k1 hdi)
    refine pk_eq (6 + D j / 2 % 2) k (fun t4 => ?_) (fun t4 => no (by omega)) (hx := pq_k1 hdj)
    refine pq_189y hdi hdj hb h (fun z5 z9 z10 z11 z12 hz => ?_)
    exact hw (z5, z9, z10, z11, z12) (by rw [pq_rowy ⟨t1, t3⟩ ⟨t2, t4⟩]; exact hz)
theorem pq_106 {k : Nat} (hk : k < 16) (hD : ∀ i, D i < 32) (hP : ∀ i, i < 8 → ∀ post : Int32 → Prop, post (nI (D i)) → wpL_part post () x0 x1 (nI i)) (hb : pq_r bd)
    (H : ∀ (n : Nat) (y5 y9 y10 y11 y12 : Int32), pq_A bd (pq_pr (pq_X D 0 k 8) (pq_X D 1 k 8)) y5 y9 y10 y11 y12 → wL_lawOf_106 post mc ms J80 x0 x1 (pq_z bd) x3 x6 x7 (nI k) kc ks o ll hh a1 a2 a3 a4 a5 a6 a7 a8 a9 a10 a11 (n + 1) y5 y9 y10 y11 y12 (nI 8)) :
    ∃ n, wL_lawOf_106 post mc ms J80 x0 x1 (pq_z bd) x3 x6 x7 (nI k) kc ks o ll hh a1 a2 a3 a4 a5 a6 a7 a8 a9 a10 a11 n 0 0 0 10000 (-10000) 0 := by
  refine pk_loop (σ := Int32 × Int32 × Int32 × Int32 × Int32) (fun n i s => wL_lawOf_106 post mc ms J80 x0 x1 (pq_z bd) x3 x6 x7 (nI k) kc ks o ll hh a1 a2 a3 a4 a5 a6 a7 a8 a9 a10 a11 n s.1 s.2.1 s.2.2.1 s.2.2.2.1 s.2.2.2.2 (nI i)) (fun i s => pq_A bd (pq_pr (pq_X D 0 k i) (pq_X D 1 k 8)) s.1 s.2.1 s.2.2.1 s.2.2.2.1 s.2.2.2.2) 8 0 (0, 0, 0, 10000, -10000) (by omega) (pq_A_0 bd) ?_ ?_
  · rintro n ⟨y5, y9, y10, y11, y12⟩ h
    exact H n y5 y9 y10 y11 y12 h
  · rintro n i ⟨y5, y9, y10, y11, y12⟩ hi h hw
    refine pk_le 8 i (fun z => absurd z (by omega)) (fun _ => ?_)
    refine pq_116 hk hD hP hb hi (by rw [pq_row0]; exact h) (fun z5 z9 z10 z11 z12 hz => ?_)
    exact hw (z5, z9, z10, z11, z12) (by rw [← pq_row8]; exact hz)
end
end
section
/-! one turn of the law's loop over the keys, and its end -/
theorem pq_C_n {T : Nat → Nat → List Int} {k s j : Nat} (h : j ≠ k) : pq_C T k s j = T s j := by
  unfold pq_C
  by_cases e : s = 1
  · subst e
    rw [pq_T_s, pq_up_n h, pq_T_n (by omega)]
  · rw [pq_T_n e]
    by_cases e0 : s = 0
    · subst e0
      rw [pq_T_s, pq_up_n h]
    · rw [pq_T_n e0]
theorem pq_C_k {T : Nat → Nat → List Int} {k s : Nat} (hs : s < 2) : pq_C T k s k = [] := by
  unfold pq_C
  by_cases e : s = 1
  · subst e
    rw [pq_T_s, pq_up_s]
  · have e0 : s = 0 := by omega
    subst e0
    rw [pq_T_n e, pq_T_s, pq_up_s]
theorem pq_bs_upd (f : Nat → Int32) (r : Nat) (v : Int32) : ∀ n, n ≤ r → pq_bs (upd f r v) n = pq_bs f n := by
  intro n
  induction n with
  | zero => intro _; rfl
  | succ n ih =>
    intro h
    show pq_bs (upd f r v) n + upd f r v n = pq_bs f n + f n
    rw [ih (by omega), pk_un (by omega)]
theorem pq_u1 {f : Nat → Int32} {k j : Nat} (h : j = k ∨ ¬ f j = 0) : ¬ upd f k 1 j = 0 := by
  by_cases e : j = k
  · rw [e, pk_us]
    decide
  · rw [pk_un e]
    rcases h with t | t
    · exact absurd t e
    · exact t
def pq_I (D : Nat → Nat) (k r : Nat) (T : Nat → Nat → List Int) (a1 a2 a3 a4 a5 a6 a7 : Nat → Int32) : Prop :=
  r ≤ k - 6 ∧ pq_P 8 T a1 a2 a3 a4 a5 ∧ (∀ s, s < 2 → ∀ j, j < 16 → (T s j).Perm (if j < k then [] else pq_X D s j 8)) ∧
  (∀ s, s < 2 → ∀ j, 4 ≤ j → j < 8 → a6 (16 * s + j) = if 6 ≤ j ∧ j < k then 1 else 0) ∧ (∀ i, i < r → a7 i >>> ((2 : Int32) &&& 31) = 1)
theorem pq_pf_le {c : Nat} {T : Nat → Nat → List Int} {a1 a2 a3 a4 a5 : Nat → Int32} (bd : Int) (hc : c ≤ 30) (h : pq_P c T a1 a2 a3 a4 a5) : pq_pf T bd ≤ 1800 := by
  have l0 := pq_len (s := 0) (k := 6) (by omega) (by omega) h
  have l1 := pq_len (s := 1) (k := 6) (by omega) (by omega) h
  have m0 := pq_len (s := 0) (k := 7) (by omega) (by omega) h
  have m1 := pq_len (s := 1) (k := 7) (by omega) (by omega) h
  have e1 := pq_c_le (T 1 6) bd (T 0 6)
  have e2 := pq_c_le (T 1 7) bd (T 0 7)
  have f1 : (T 0 6).length * (T 1 6).length ≤ 30 * 30 := Nat.mul_le_mul (by omega) (by omega)
  have f2 : (T 0 7).length * (T 1 7).length ≤ 30 * 30 := Nat.mul_le_mul (by omega) (by omega)
  unfold pq_pf
  omega
theorem pq_pf_C {T : Nat → Nat → List Int} {k : Nat} (bd : Int) (hk : k = 6 ∨ k = 7) : pq_pf (pq_C T k) bd ≤ pq_pf T bd := by
  unfold pq_pf
  rcases hk with rfl | rfl
  · rw [pq_C_k (s := 0) (by omega), pq_C_n (s := 0) (j := 7) (by omega), pq_C_n (s := 1) (j := 7) (by omega)]
    simp
  · rw [pq_C_k (s := 0) (by omega), pq_C_n (s := 0) (j := 6) (by omega), pq_C_n (s := 1) (j := 6) (by omega)]
    simp
section
variable {post : Int32 → St0 → Prop} {mc ms kc ks : Nat} {J80 : Int32 → Int32 → Int32 → Int32 → Int32 → Int32 → Int32 → (Nat → Int32) → (Nat → Int32) → (Nat → Int32) → (Nat → Int32) → (Nat → Int32) → (Nat → Int32) → (Nat → Int32) → (Nat → Int32) → (Nat → Int32) → (Nat → Int32) → (Nat → Int32) → Prop}
variable {x0 x1 x2 x3 x5 x9 x10 x11 x12 : Int32} {bd : Int} {D : Nat → Nat} {T : Nat → Nat → List Int}
variable {ll hh : Int32} {a1 a2 a3 a4 a5 a6 a7 a8 a9 a10 a11 b7 b8 b9 b10 b11 : Nat → Int32}
theorem pq_392 {k r r' : Nat} {L K : List Int} {z w : Int} (hk : k < 16) (hr : r < 15) (ho : pq_out L K k r r' a7 a8 a9 a10 a11 b7 b8 b9 b10 b11) (hl : L.length * K.length ≤ 900) (hz : pq_lz L K z) (hw : pq_gz L K w)
    (H : J80 x5 (nI r') (pq_bs b9 r') (nI (k + 1)) (nI r') ll hh a1 a2 a3 a4 a5 a6 b7 b8 b9 b10 b11) :
    wL_lawOf_392 post mc ms J80 x0 x1 x2 x3 x5 (nI r) (pq_bs a9 r) (nI k) (nI (L.length * K.length)) (pq_z (L.sum * K.sum)) (pq_z z) (pq_z w) kc ks (nI r') ll hh a1 a2 a3 a4 a5 a6 b7 b8 b9 b10 b11 := by
  unfold wL_lawOf_392
  rcases ho with ⟨h0, rfl, rfl, rfl, rfl, rfl, rfl⟩ | ⟨h0, rfl, z1, w1, hz1, hw1, rfl, rfl, rfl, rfl, rfl⟩
  · exact pk_le (L.length * K.length) 0 (fun _ => nm_r (nI_1 k) H) (fun t => absurd t (by omega))
  · have ez : z1 = z := pq_lz_u (List.Perm.refl _) (List.Perm.refl _) hz1 hz
    have ew : w1 = w := pq_gz_u (List.Perm.refl _) (List.Perm.refl _) hw1 hw
    subst ez
    subst ew
    refine pk_le (L.length * K.length) 0 (fun t => absurd t (by omega)) (fun _ => ?_)
    refine pq_resK (r := r + 1) (by omega) (by omega) ?_
    refine br_t pk_us ?_
    refine pq_resP (r := r + 1) (by omega) (by omega) ?_
    refine br_t pk_us ?_
    refine pq_resS (r := r + 1) (by omega) (by omega) ?_
    refine br_t pk_us ?_
    refine pq_resL (r := r + 1) (by omega) (by omega) ?_
    refine br_t pk_us ?_
    refine pq_resG (r := r + 1) (by omega) (by omega) ?_
    refine br_t pk_us ?_
    refine nm_r (nI_1 r) (nm_r ?_ (nm_r (nI_1 k) H))
    show pq_bs a9 r + pq_z (L.sum * K.sum) = pq_bs (upd a9 r (pq_z (L.sum * K.sum))) r + upd a9 r (pq_z (L.sum * K.sum)) r
    rw [pk_us, pq_bs_upd a9 r _ r (Nat.le_refl _)]
theorem pq_334 {k r : Nat} {z w : Int} (hk : k = 6 ∨ k = 7) (hb : pq_r bd) (hI : pq_I D k r T a1 a2 a3 a4 a5 a6 a7) (hz : pq_lz (T 0 k) (T 1 k) z) (hw : pq_gz (T 0 k) (T 1 k) w)
    (HJ : ∀ (y5 : Int32) (r' : Nat) (T' : Nat → Nat → List Int) (l' h' : Int32) (b1 b2 b3 b4 b5 b6 b7 b8 b9 b10 b11 : Nat → Int32), (k = 6 → y5 = 0) → pq_I D (k + 1) r' T' b1 b2 b3 b4 b5 b6 b7 → J80 y5 (nI r') (pq_bs b9 r') (nI (k + 1)) (nI r') l' h' b1 b2 b3 b4 b5 b6 b7 b8 b9 b10 b11) :
    wL_lawOf_334 post mc ms J80 x0 x1 (pq_z bd) x3 x5 (nI r) (pq_bs a9 r) (nI k) (nI ((T 0 k).length * (T 1 k).length)) (pq_z ((T 0 k).sum * (T 1 k).sum)) (pq_z z) (pq_z w) kc ks (nI r) ll hh a1 a2 a3 a4 a5 a6 a7 a8 a9 a10 a11 := by
  obtain ⟨hr, hP, hT, h6, h7⟩ := hI
  have hE : ∀ j, j < 16 → j ≠ 6 → j ≠ 7 → T 0 j = [] := by
    intro j hj j6 j7
    have t := hT 0 (by omega) j hj
    rw [pq_X_e j6 j7] at t
    simp only [ite_self] at t
    exact t.eq_nil
  have hE' : ∀ j, j < 16 → j ≠ 6 → j ≠ 7 → pq_C T k 0 j = [] := by
    intro j hj j6 j7
    rw [pq_C_n (by omega)]
    exact hE j hj j6 j7
  have l0 := pq_len (s := 0) (k := k) (by omega) (by omega) hP
  have l1 := pq_len (s := 1) (k := k) (by omega) (by omega) hP
  have hm : (T 0 k).length * (T 1 k).length ≤ 30 * 30 := Nat.mul_le_mul (by omega) (by omega)
  have s0 : a6 (16 * 0 + k) = 0 := by
    rw [h6 0 (by omega) k (by omega) (by omega), if_neg (by omega)]
  have s1 : a6 (16 * 1 + k) = 0 := by
    rw [h6 1 (by omega) k (by omega) (by omega), if_neg (by omega)]
  unfold wL_lawOf_334
  refine pq_pairsFrom (by omega) hP hE hb ?_
  refine pq_close (s := 0) (f := k) (e := k) (by omega) (by omega) (by omega) ⟨2, ?_⟩
  refine pq_c33a (s := 0) (by omega) (Nat.le_refl _) (by omega) s0 s1 ?_
  refine pq_c33x (by omega) (by omega) ?_
  refine br_t rfl ?_
  refine pq_close (s := 1) (f := k) (e := k) (by omega) (by omega) (by omega) ⟨2, ?_⟩
  refine pq_c33b (s := 1) (by omega) (Nat.le_refl _) (by omega) (by omega) (by omega) hP (by rw [pk_un (by omega)]; exact s1) (pq_u1 (Or.inl (by omega))) (fun r' l' h' b1 b2 b3 b4 b5 b7 b8 b9 b10 b11 hb' ho => ?_)
  refine pq_c33x (by omega) (by omega) ?_
  refine br_t (by decide) ?_
  refine pq_pairsFrom (by omega) hb' hE' hb ?_
  have q1 := pq_pf_le bd (by omega) hP
  have q2 := pq_pf_C (T := T) bd hk
  refine pk_le (pq_pf (pq_C T k) bd) (pq_pf T bd) (fun _ => ?_) (fun t => absurd t (by omega))
  have hI' : pq_I D (k + 1) r' (pq_C T k) b1 b2 b3 b4 b5 (upd (upd a6 (16 * 0 + k) 1) (16 * 1 + k) 1) b7 := by
    refine ⟨?_, hb', fun s hs j hj => ?_, fun s hs j j4 j8 => ?_, ?_⟩
    · rcases ho with ⟨_, e, _⟩ | ⟨_, e, _⟩
      · omega
      · omega
    · by_cases e : j = k
      · subst e
        rw [pq_C_k hs, if_pos (by omega)]
      · rw [pq_C_n e]
        have t := hT s hs j hj
        by_cases c : j < k
        · rw [if_pos c] at t
          rw [if_pos (by omega)]
          exact t
        · rw [if_neg c] at t
          rw [if_neg (by omega)]
          exact t
    · by_cases e : j = k
      · subst e
        rw [if_pos (by omega)]
        by_cases e1 : s = 1
        · subst e1
          rw [pk_us]
        · have e0 : s = 0 := by omega
          subst e0
          rw [pk_un (by omega), pk_us]
      · rw [pk_un (by omega), pk_un (by omega), h6 s hs j j4 j8]
        by_cases c : 6 ≤ j ∧ j < k
        · rw [if_pos c, if_pos (by omega)]
        · rw [if_neg c, if_neg (by omega)]
    · rcases ho with ⟨_, e, e7, _⟩ | ⟨_, e, z', w', _, _, e7, _⟩
      · subst e e7
        exact h7
      · intro i hi
        rw [e7]
        by_cases ei : i = r
        · rw [ei, pk_us]
          rcases hk with e' | e'
          · rw [e']
            rfl
          · rw [e']
            rfl
        · rw [pk_un ei]
          exact h7 i (by omega)
  rcases hk with rfl | rfl
  · refine br_t rfl ?_
    exact pq_392 (by omega) (by omega) ho (by omega) hz hw (HJ 0 r' _ l' h' b1 b2 b3 b4 b5 _ b7 b8 b9 b10 b11 (fun _ => rfl) hI')
  · refine br_f (by decide) ?_
    exact pq_392 (by omega) (by omega) ho (by omega) hz hw (HJ x5 r' _ l' h' b1 b2 b3 b4 b5 _ b7 b8 b9 b10 b11 (fun t => absurd t (by omega)) hI')
theorem pq_check {k r n : Nat} (hk : k = 6 ∨ k = 7) (hb : pq_r bd) (hI : pq_I D k r T a1 a2 a3 a4 a5 a6 a7) (hA : pq_A bd (pq_pr (pq_X D 0 k 8) (pq_X D 1 k 8)) x5 x9 x10 x11 x12)
    (HJ : ∀ (y5 : Int32) (r' : Nat) (T' : Nat → Nat → List Int) (l' h' : Int32) (b1 b2 b3 b4 b5 b6 b7 b8 b9 b10 b11 : Nat → Int32), (k = 6 → y5 = 0) → pq_I D (k + 1) r' T' b1 b2 b3 b4 b5 b6 b7 → J80 y5 (nI r') (pq_bs b9 r') (nI (k + 1)) (nI r') l' h' b1 b2 b3 b4 b5 b6 b7 b8 b9 b10 b11) :
    wL_lawOf_106 post mc ms J80 x0 x1 (pq_z bd) x3 (nI r) (pq_bs a9 r) (nI k) kc ks (nI r) ll hh a1 a2 a3 a4 a5 a6 a7 a8 a9 a10 a11 (n + 1) x5 x9 x10 x11 x12 (nI 8) := by
  have hP := hI.2.1
  have hT := hI.2.2.1
  have p0 : (T 0 k).Perm (pq_X D 0 k 8) := by
    have t := hT 0 (by omega) k (by omega)
    rw [if_neg (by omega)] at t
    exact t
  have p1 : (T 1 k).Perm (pq_X D 1 k 8) := by
    have t := hT 1 (by omega) k (by omega)
    rw [if_neg (by omega)] at t
    exact t
  obtain ⟨z0, e11, hz0⟩ := pq_A_lz hA
  obtain ⟨w0, e12, hw0⟩ := pq_A_gz hA
  obtain ⟨e5, e9, e10, _⟩ := hA
  rw [pq_pr_len, ← p0.length_eq, ← p1.length_eq] at e9
  rw [pq_pr_sum, ← pq_sum_perm p0, ← pq_sum_perm p1] at e10
  rw [pq_pr_cnt, ← pq_c_perm bd p0 p1] at e5
  subst e9 e10 e11 e12
  refine pk_le 8 8 (fun _ => ?_) (fun t => absurd t (by omega))
  refine pq_pairs (by omega) hP ?_
  refine br_t rfl ?_
  refine pq_sums (by omega) hP ?_
  refine br_t rfl ?_
  refine pq_least (by omega) (by omega) hP (fun z l' h' hz => ?_)
  have ez : z = z0 := pq_lz_u p0 p1 hz hz0
  subst ez
  refine br_t rfl ?_
  refine pq_greatest (by omega) (by omega) hP (fun w l'' h'' hw => ?_)
  have ew : w = w0 := pq_gz_u p0 p1 hw hw0
  subst ew
  refine br_t rfl ?_
  rcases hk with rfl | rfl
  · refine br_f (by decide) ?_
    exact pq_334 (Or.inl rfl) hb hI hz hw HJ
  · have hE : ∀ j, j < 16 → j ≠ 6 → j ≠ 7 → T 0 j = [] := by
      intro j hj j6 j7
      have t := hT 0 (by omega) j hj
      rw [pq_X_e j6 j7] at t
      simp only [ite_self] at t
      exact t.eq_nil
    have t6 : T 0 6 = [] := by
      have t := hT 0 (by omega) 6 (by omega)
      rw [if_pos (by omega)] at t
      exact t.eq_nil
    refine br_t rfl ?_
    refine pq_pairsFrom (by omega) hP hE hb ?_
    refine br_t ?_ (pq_334 (Or.inr rfl) hb hI hz hw HJ)
    rw [e5]
    unfold pq_pf
    rw [t6]
    simp
end
end
section
/-! the end of the law, the feeding loop, the top -/
section
variable {post : Int32 → St0 → Prop} {mc ms kc ks : Nat}
variable {x0 x1 x2 x3 x5 : Int32} {bd : Int} {D : Nat → Nat} {T : Nat → Nat → List Int}
variable {ll hh : Int32} {a1 a2 a3 a4 a5 a6 a7 a8 a9 a10 a11 : Nat → Int32}
theorem pq_out_e {k r r' : Nat} {b7 b8 b9 b10 b11 : Nat → Int32} {L K : List Int} (hL : L = []) (h : pq_out L K k r r' a7 a8 a9 a10 a11 b7 b8 b9 b10 b11) : r' = r ∧ b7 = a7 ∧ b9 = a9 := by
  subst hL
  rcases h with ⟨_, e, e7, _, e9, _⟩ | ⟨h0, _⟩
  · exact ⟨e, e7, e9⟩
  · rw [List.length_nil, Nat.zero_mul] at h0
    exact absurd h0 (by omega)
theorem pq_end {r n : Nat} (hp : post 1 ()) (hI : pq_I D 8 r T a1 a2 a3 a4 a5 a6 a7) :
    wL_lawOf_80 post mc ms x0 x1 x2 x3 kc ks (n + 1) x5 (nI r) (pq_bs a9 r) (nI 8) (nI r) ll hh a1 a2 a3 a4 a5 a6 a7 a8 a9 a10 a11 := by
  obtain ⟨hr, hP, hT, h6, h7⟩ := hI
  have hE : ∀ j, j < 16 → T 0 j = [] := by
    intro j hj
    have t := hT 0 (by omega) j hj
    by_cases c : j < 8
    · rw [if_pos c] at t
      exact t.eq_nil
    · rw [if_neg c, pq_X_e (by omega) (by omega)] at t
      exact t.eq_nil
  have z4 : ∀ s, s < 2 → a6 (16 * s + 4) = 0 := fun s hs => by
    rw [h6 s hs 4 (by omega) (by omega), if_neg (by omega)]
  have z5 : ∀ s, s < 2 → a6 (16 * s + 5) = 0 := fun s hs => by
    rw [h6 s hs 5 (by omega) (by omega), if_neg (by omega)]
  have z67 : ∀ s, s < 2 → ∀ j, 6 ≤ j → j < 8 → ¬ a6 (16 * s + j) = 0 := fun s hs j j6 j8 => by
    rw [h6 s hs j (by omega) j8, if_pos ⟨j6, j8⟩]
    decide
  refine pk_le 8 8 (fun _ => ?_) (fun t => absurd t (by omega))
  obtain ⟨d, hd, e⟩ := pk_andE x3 (m := 1) 1 (by decide)
  have hd2 : d < 2 := hd
  rw [e, pq_1s hd2]
  refine pq_close (s := d) (f := 4) (e := 5) hd2 (by omega) (by omega) ⟨3, ?_⟩
  refine pq_c33a hd2 (by omega) (by omega) (z4 d hd2) (z4 (1 - d) (by omega)) ?_
  refine pq_c33a hd2 (by omega) (by omega) (by rw [pk_un (by omega)]; exact z5 d hd2) (by rw [pk_un (by omega)]; exact z5 (1 - d) (by omega)) ?_
  refine pq_c33x (by omega) (by omega) ?_
  refine pq_bandSumN ?_ ?_
  · by_cases c : d = 0
    · subst c
      right
      rw [pk_un (by omega), pk_un (by omega)]
      exact z4 1 (by omega)
    · left
      rw [pk_un (by omega), pk_un (by omega)]
      exact z4 0 (by omega)
  refine br_t rfl ?_
  refine pq_close (s := 1 - d) (f := 4) (e := 5) (by omega) (by omega) (by omega) ⟨3, ?_⟩
  refine pq_c33b (s := 1 - d) (r := r) (by omega) (by omega) (by omega) (by omega) (by omega) hP (by rw [pk_un (by omega), pk_un (by omega)]; exact z4 (1 - d) (by omega)) (pq_u1 (Or.inr (pq_u1 (Or.inl (by omega))))) (fun r1 l1 h1 b1 b2 b3 b4 b5 b7 b8 b9 b10 b11 hb1 ho1 => ?_)
  obtain ⟨e1, e2, e3⟩ := pq_out_e (hE 4 (by omega)) ho1
  subst e1 e2 e3
  refine pq_c33b (s := 1 - d) (by omega) (by omega) (by omega) (by omega) (by omega) hb1 (by rw [pk_un (by omega), pk_un (by omega), pk_un (by omega)]; exact z5 (1 - d) (by omega)) (pq_u1 (Or.inr (pq_u1 (Or.inl (by omega))))) (fun r2 l2 h2 c1 c2 c3 c4 c5 c7 c8 c9 c10 c11 hb2 ho2 => ?_)
  obtain ⟨e1, e2, e3⟩ := pq_out_e (by rw [pq_C_n (by omega)]; exact hE 5 (by omega)) ho2
  subst e1 e2 e3
  refine pq_c33x (by omega) (by omega) ?_
  refine br_t (by decide) ?_
  have all : ∀ s, s < 2 → ∀ j, 4 ≤ j → j < 8 → ¬ upd (upd (upd (upd a6 (16 * d + 4) 1) (16 * d + 5) 1) (16 * (1 - d) + 4) 1) (16 * (1 - d) + 5) 1 (16 * s + j) = 0 := by
    intro s hs j j4 j8
    by_cases c : 6 ≤ j
    · exact pq_u1 (Or.inr (pq_u1 (Or.inr (pq_u1 (Or.inr (pq_u1 (Or.inr (z67 s hs j c j8))))))))
    · by_cases c5 : j = 5
      · by_cases cs : s = d
        · exact pq_u1 (Or.inr (pq_u1 (Or.inr (pq_u1 (Or.inl (by omega))))))
        · exact pq_u1 (Or.inl (by omega))
      · by_cases cs : s = d
        · exact pq_u1 (Or.inr (pq_u1 (Or.inr (pq_u1 (Or.inr (pq_u1 (Or.inl (by omega))))))))
        · exact pq_u1 (Or.inr (pq_u1 (Or.inl (by omega))))
  refine pq_bandSumY (by omega) (fun j j4 j8 => ?_) h7 ?_
  · have t0 := all 0 (by omega) j j4 j8
    have t1 := all 1 (by omega) j j4 j8
    rw [show 16 * 0 + j = j by omega] at t0
    exact ⟨t0, t1⟩
  refine br_t rfl ?_
  exact br_t rfl hp
theorem pq_80 (hp : post 1 ()) (hD : ∀ i, D i < 32) (hPt : ∀ i, i < 8 → ∀ post : Int32 → Prop, post (nI (D i)) → wpL_part post () x0 x1 (nI i)) (hb : pq_r bd) (hI : pq_I D 6 0 T a1 a2 a3 a4 a5 a6 a7) :
    ∃ n, wL_lawOf_80 post mc ms x0 x1 (pq_z bd) x3 kc ks n 0 0 0 6 0 ll hh a1 a2 a3 a4 a5 a6 a7 a8 a9 a10 a11 := by
  refine ⟨3, ?_⟩
  refine pk_le 8 6 (fun t => absurd t (by omega)) (fun _ => ?_)
  refine pq_106 (k := 6) (by omega) hD hPt hb (fun n y5 y9 y10 y11 y12 hA => ?_)
  refine pq_check (r := 0) (Or.inl rfl) hb hI hA (fun y5 r' T' l' h' b1 b2 b3 b4 b5 b6 b7 b8 b9 b10 b11 h5 hI' => ?_)
  have h5' := h5 rfl
  subst h5'
  refine pk_le 8 7 (fun t => absurd t (by omega)) (fun _ => ?_)
  refine pq_106 (k := 7) (by omega) hD hPt hb (fun n y5 y9 y10 y11 y12 hA => ?_)
  refine pq_check (Or.inr rfl) hb hI' hA (fun y5 r' T' l' h' b1 b2 b3 b4 b5 b6 b7 b8 b9 b10 b11 h5 hI'' => ?_)
  exact pq_end hp hI''
theorem pq_of_nil : ∀ k, pq_of (fun _ => []) k = 0 := by
  intro k
  induction k with
  | zero => rfl
  | succ k ih =>
    show pq_of (fun _ => []) k + 0 = 0
    rw [ih]
theorem pq_P0 : pq_P 0 (fun _ _ => []) (fun _ => 0) (fun _ => 0) (fun _ => 0) (fun _ => 0) (fun _ => 0) := by
  intro s hs
  refine ⟨?_, ?_, fun k hk => ?_, fun k hk i hi => absurd hi (by simp), fun k hk => rfl, fun k hk i j _ hj => absurd hj (by simp), fun k hk v hv => absurd hv (by simp)⟩
  · rw [pq_of_nil]
    exact Nat.le_refl _
  · rw [pq_of_nil]
    rfl
  · rw [pq_of_nil]
    rfl
theorem pq_12 (hp : post 1 ()) (hD : ∀ i, D i < 32) (hPt : ∀ i, i < 8 → ∀ post : Int32 → Prop, post (nI (D i)) → wpL_part post () x0 x1 (nI i)) (hb : pq_r bd) :
    ∃ n, wL_lawOf_12 post mc ms x0 x1 (pq_z bd) x3 kc ks n 0 0 0 0 (fun _ => 0) (fun _ => 0) (fun _ => 0) (fun _ => 0) (fun _ => 0) (fun _ => 0) (fun _ => 0) (fun _ => 0) (fun _ => 0) (fun _ => 0) (fun _ => 0) := by
  refine pk_loop (σ := (Nat → Int32) × (Nat → Int32) × (Nat → Int32) × (Nat → Int32) × (Nat → Int32)) (fun n i s => wL_lawOf_12 post mc ms x0 x1 (pq_z bd) x3 kc ks n (nI i) 0 0 0 s.1 s.2.1 s.2.2.1 s.2.2.2.1 s.2.2.2.2 (fun _ => 0) (fun _ => 0) (fun _ => 0) (fun _ => 0) (fun _ => 0) (fun _ => 0)) (fun i s => ∃ T, pq_P i T s.1 s.2.1 s.2.2.1 s.2.2.2.1 s.2.2.2.2 ∧ ∀ s j, (T s j).Perm (pq_X D s j i)) 8 0 (fun _ => 0, fun _ => 0, fun _ => 0, fun _ => 0, fun _ => 0) (by omega) ⟨fun _ _ => [], pq_P0, fun s j => List.Perm.refl _⟩ ?_ ?_
  · rintro n ⟨b1, b2, b3, b4, b5⟩ ⟨T, hP, hT⟩
    refine pk_le 8 8 (fun _ => ?_) (fun t => absurd t (by omega))
    refine pq_80 hp hD hPt hb (T := T) ⟨by omega, hP, fun s hs j hj => ?_, fun s hs j j4 j8 => ?_, fun i hi => absurd hi (by omega)⟩
    · by_cases c : j < 6
      · have t := hT s j
        rw [pq_X_e (by omega) (by omega)] at t
        rw [if_pos c]
        exact t
      · rw [if_neg c]
        exact hT s j
    · rw [if_neg (by omega)]
  · rintro n i ⟨b1, b2, b3, b4, b5⟩ hi ⟨T, hP, hT⟩ hw
    have hdi := hD i
    refine pk_le 8 i (fun t => absurd t (by omega)) (fun _ => ?_)
    refine hPt i hi _ ?_
    refine pq_val hdi ?_
    rw [pq_s1 hdi, pq_k1 hdi]
    refine pq_feed (by omega) (by omega) (by omega) (pq_v_in hdi).1 (pq_v_in hdi).2 rfl hP (fun l m c1 c2 c3 c4 c5 hl hm hP' => ?_)
    refine pk_le 1 (m + 1) (fun _ => nm_r (nI_1 i) ?_) (fun t => absurd t (by omega))
    refine hw (c1, c2, c3, c4, c5) ⟨_, hP', fun s j => ?_⟩
    by_cases cs : D i % 2 = s
    · subst cs
      rw [pq_T_s]
      by_cases cj : 6 + D i / 2 % 2 = j
      · subst cj
        rw [pq_up_s, pq_X_y ⟨rfl, rfl⟩]
        exact hl.trans (((hT _ _).cons _).trans (List.perm_append_singleton _ _).symm)
      · rw [pq_up_n (fun t => cj t.symm), pq_X_n (fun t => cj t.2)]
        exact hT _ _
    · rw [pq_T_n (fun t => cs t.symm), pq_X_n (fun t => cs t.1)]
      exact hT _ _
end
theorem pq_cell {post : Int32 → Prop} {L i : Nat} {xs : Nat → Int32} (hL : L ≤ 4) (hi : i < 4) (H : ∀ x, post x) : wpL_cellAt post L xs () (nI i) :=
  pk_le L i (fun _ => H 0) (fun z => ⟨pk_in i L z, H _⟩)
theorem pq_law {post : Int32 → St0 → Prop} (hp : post 1 ()) (p q b d : Int32) : wpL_lawOf post 190 3024 () p q b d := by
  obtain ⟨D, hD, hPt⟩ := pq_part p q
  have t := pq_12 (mc := 190) (ms := 3024) (kc := 1 + 100) (ks := 14 + 1000) (x3 := d) hp hD hPt (pq_r32 b)
  rw [← pq_of32] at t
  unfold wpL_lawOf
  refine ⟨by omega, by omega, 100, 1000, by omega, by omega, ?_⟩
  unfold wpX_init
  exact ⟨by omega, by omega, by omega, by omega, by omega, by omega, by omega, by omega, by omega, by omega, by omega, by omega, by omega, by omega, by omega, by omega, by omega, by omega, by omega, by omega, by omega, by omega, t⟩
theorem i_vc (xs : Nat → Int32) (L : Nat) (hL : L ≤ 4) : wpL_law (fun r => r = 1) L xs := by
  unfold wpL_law
  refine pq_cell (i := 0) hL (by omega) (fun p => ?_)
  refine pq_cell (i := 1) hL (by omega) (fun q => ?_)
  refine pq_cell (i := 2) hL (by omega) (fun b => ?_)
  refine pq_cell (i := 3) hL (by omega) (fun d => ?_)
  exact ⟨190, 3024, by omega, by omega, pq_law rfl p q b d⟩
end
