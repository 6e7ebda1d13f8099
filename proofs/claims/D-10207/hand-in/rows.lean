section
/-- reachable from a by edges E, every vertex behind a in P -/
def dc_Rp (E : Nat → Nat → Prop) (P : Nat → Prop) (a b : Nat) : Prop :=
  ∀ S : Nat → Prop, S a → (∀ x y, S x → E x y → P y → S y) → S b
theorem dc_rp_refl {E : Nat → Nat → Prop} {P : Nat → Prop} {a : Nat} : dc_Rp E P a a := fun _ h _ => h
theorem dc_rp_snoc {E : Nat → Nat → Prop} {P : Nat → Prop} {a b c : Nat} (h : dc_Rp E P a b) (e : E b c) (hc : P c) : dc_Rp E P a c :=
  fun S h0 hs => hs b c (h S h0 hs) e hc
theorem dc_rp_trans {E : Nat → Nat → Prop} {P : Nat → Prop} {a b c : Nat} (h : dc_Rp E P a b) (g : dc_Rp E P b c) : dc_Rp E P a c :=
  fun S h0 hs => g S (h S h0 hs) hs
theorem dc_rp_mono {E : Nat → Nat → Prop} {P Q : Nat → Prop} {a b : Nat} (h : dc_Rp E P a b) (hP : ∀ x, P x → Q x) : dc_Rp E Q a b :=
  fun S h0 hs => h S h0 (fun x y hx e hy => hs x y hx e (hP y hy))
theorem dc_rp_last {E : Nat → Nat → Prop} {P : Nat → Prop} {a b : Nat} (h : dc_Rp E P a b) : b = a ∨ P b :=
  h (fun b => b = a ∨ P b) (Or.inl rfl) (fun _ _ _ _ hy => Or.inr hy)
theorem dc_rp_ind {E : Nat → Nat → Prop} {P : Nat → Prop} {a b : Nat} (S : Nat → Prop) (h : dc_Rp E P a b) (h0 : S a)
    (hs : ∀ x y, dc_Rp E P a x → S x → E x y → P y → S y) : S b :=
  (h (fun x => dc_Rp E P a x ∧ S x) ⟨dc_rp_refl, h0⟩ (fun x y hx e hy => ⟨dc_rp_snoc hx.1 e hy, hs x y hx.1 hx.2 e hy⟩)).2
/-- i is j or above it, in the tree of parents p numbered in preorder -/
def dc_An (p : Nat → Nat) (i j : Nat) : Prop := i ≤ j ∧ ∀ k, i < k → k ≤ j → i ≤ p k
theorem dc_an_refl (p : Nat → Nat) (i : Nat) : dc_An p i i := ⟨Nat.le_refl i, fun k h1 h2 => absurd h1 (by omega)⟩
theorem dc_an_zero (p : Nat → Nat) (j : Nat) : dc_An p 0 j := ⟨Nat.zero_le j, fun k _ _ => Nat.zero_le (p k)⟩
theorem dc_an_trans {p : Nat → Nat} {i j k : Nat} (h : dc_An p i j) (g : dc_An p j k) : dc_An p i k := by
  have h1 := h.1
  have g1 := g.1
  refine ⟨by omega, fun x a b => ?_⟩
  by_cases hx : x ≤ j
  · exact h.2 x a hx
  · have := g.2 x (by omega) b
    omega
theorem dc_an_mid {p : Nat → Nat} {i j k : Nat} (h : dc_An p i k) (h1 : i ≤ j) (h2 : j ≤ k) : dc_An p i j :=
  ⟨h1, fun x a b => h.2 x a (by omega)⟩
theorem dc_an_par {p : Nat → Nat} {i j : Nat} (h : dc_An p i j) (hij : i < j) (hp : p j < j) : dc_An p i (p j) :=
  dc_an_mid h (h.2 j hij (Nat.le_refl j)) (by omega)
/-- two parent functions that agree below r have the same ancestors there -/
theorem dc_an_ext {p q : Nat → Nat} {r i j : Nat} (h : ∀ k, k < r → q k = p k) (hj : j < r) (a : dc_An p i j) : dc_An q i j :=
  ⟨a.1, fun k h1 h2 => by rw [h k (by omega)]; exact a.2 k h1 h2⟩
/-- the numbered graph: edges inside 0 .. r-1, a depth-first tree p over it -/
def dc_Tr (r : Nat) (E : Nat → Nat → Prop) (p : Nat → Nat) : Prop :=
  (∀ i j, E i j → i < r ∧ j < r) ∧ (∀ j, 0 < j → j < r → p j < j ∧ E (p j) j) ∧
  (∀ j, 0 < j → j < r → ∀ k, p j < k → k ≤ j → p j ≤ p k) ∧ (∀ i j, i ≤ j → E i j → dc_An p i j)
theorem dc_an_edge {r : Nat} {E : Nat → Nat → Prop} {p : Nat → Nat} (T : dc_Tr r E p) {j : Nat} (h0 : 0 < j) (hj : j < r) : dc_An p (p j) j :=
  ⟨by have := (T.2.1 j h0 hj).1; omega, T.2.2.1 j h0 hj⟩
theorem dc_an_step {r : Nat} {E : Nat → Nat → Prop} {p : Nat → Nat} (T : dc_Tr r E p) {c a b : Nat} (h : dc_An p c a) (e : E a b) (hb : c ≤ b) : dc_An p c b := by
  by_cases hab : a ≤ b
  · exact dc_an_trans h (T.2.2.2 a b hab e)
  · exact dc_an_mid h hb (by omega)
/-- the tree path -/
theorem dc_tp {r : Nat} {E : Nat → Nat → Prop} {p : Nat → Nat} (T : dc_Tr r E p) {i : Nat} : ∀ j, j < r → dc_An p i j → dc_Rp E (fun x => i < x ∧ dc_An p x j) i j := by
  intro j
  induction j using Nat.strongRecOn with
  | ind j ih =>
    intro hj h
    by_cases e : i = j
    · rw [← e]
      exact dc_rp_refl
    · have hi := h.1
      have hl : i < j := by omega
      have h0 : 0 < j := by omega
      have hp := T.2.1 j h0 hj
      have hq := ih (p j) hp.1 (by omega) (dc_an_par h hl hp.1)
      refine dc_rp_snoc (dc_rp_mono hq (fun x hx => ⟨hx.1, dc_an_trans hx.2 (dc_an_edge T h0 hj)⟩)) hp.2 ⟨hl, dc_an_refl p j⟩
/-- a child of s towards v -/
theorem dc_child {r : Nat} {E : Nat → Nat → Prop} {p : Nat → Nat} (T : dc_Tr r E p) {s : Nat} : ∀ v, v < r → dc_An p s v → s < v → ∃ x, dc_An p x v ∧ p x = s ∧ 0 < x := by
  intro v
  induction v using Nat.strongRecOn with
  | ind v ih =>
    intro hv h hs
    have hp := T.2.1 v (by omega) hv
    by_cases e : p v = s
    · exact ⟨v, dc_an_refl p v, e, by omega⟩
    · have h1 := dc_an_par h hs hp.1
      have h2 := h1.1
      obtain ⟨x, x1, x2, x3⟩ := ih (p v) hp.1 (by omega) h1 (by omega)
      exact ⟨x, dc_an_trans x1 (dc_an_edge T (by omega) hv), x2, x3⟩
/-- a path from x to y whose inner vertices lie above y -/
def dc_Hp (E : Nat → Nat → Prop) (x y : Nat) : Prop := ∃ c, dc_Rp E (fun q => y < q) x c ∧ E c y
theorem dc_hp_an {r : Nat} {E : Nat → Nat → Prop} {p : Nat → Nat} (T : dc_Tr r E p) {x y : Nat} (hxy : x < y) (h : dc_Hp E x y) : dc_An p x y := by
  obtain ⟨c, hc, ec⟩ := h
  have h1 : dc_An p x c := dc_rp_ind (fun c => dc_An p x c) hc (dc_an_refl p x) (fun a b _ ha e hb => dc_an_step T ha e (by omega))
  exact dc_an_step T h1 ec (by omega)
/-- what the search for semi-dominators gives at w -/
def dc_Sd (E : Nat → Nat → Prop) (p sd : Nat → Nat) (w : Nat) : Prop :=
  sd w < w ∧ (E (sd w) w ∨ ∃ u v, w < u ∧ dc_An p u v ∧ E v w ∧ sd u = sd w) ∧ (∀ v, E v w → v < w → sd w ≤ v) ∧
  (∀ u v, E v w → dc_An p u v → w < u → sd w ≤ sd u)
theorem dc_semi {r : Nat} {E : Nat → Nat → Prop} {p sd : Nat → Nat} (T : dc_Tr r E p) (hs : ∀ w, 0 < w → w < r → dc_Sd E p sd w) :
    ∀ k w, 0 < w → w < r → r - w ≤ k → dc_Hp E (sd w) w ∧ ∀ x, x < w → dc_Hp E x w → sd w ≤ x := by
  intro k
  induction k with
  | zero => intro w h0 h1 h2; exact absurd h2 (by omega)
  | succ k ih =>
    intro w h0 h1 h2
    obtain ⟨s1, s2, s3, s4⟩ := hs w h0 h1
    constructor
    · rcases s2 with e | ⟨u, v, hu, a, e, es⟩
      · exact ⟨sd w, dc_rp_refl, e⟩
      · have hv := (T.1 v w e).1
        have au := a.1
        obtain ⟨c, hc, ec⟩ := (ih u (by omega) (by omega) (by omega)).1
        rw [← es]
        refine ⟨v, ?_, e⟩
        have g1 : dc_Rp E (fun q => w < q) (sd u) u := dc_rp_snoc (dc_rp_mono hc (fun x hx => by omega)) ec hu
        exact dc_rp_trans g1 (dc_rp_mono (dc_tp T v hv a) (fun x hx => by have := hx.1; omega))
    · intro x hx hp
      obtain ⟨c, hc, ec⟩ := hp
      have K : ∀ t, w < t → dc_Rp E (fun q => t < q) x c ∨ ∃ q, w < q ∧ q ≤ t ∧ dc_Hp E x q ∧ dc_An p q c := by
        refine dc_rp_ind (fun c => ∀ t, w < t → dc_Rp E (fun q => t < q) x c ∨ ∃ q, w < q ∧ q ≤ t ∧ dc_Hp E x q ∧ dc_An p q c) hc (fun t _ => Or.inl dc_rp_refl) ?_
        intro a b _ ia e hb t ht
        by_cases htb : t < b
        · rcases ia t ht with g | ⟨q, q1, q2, q3, q4⟩
          · exact Or.inl (dc_rp_snoc g e htb)
          · exact Or.inr ⟨q, q1, q2, q3, dc_an_step T q4 e (by omega)⟩
        · rcases ia b hb with g | ⟨q, q1, q2, q3, q4⟩
          · exact Or.inr ⟨b, hb, by omega, ⟨a, g, e⟩, dc_an_refl p b⟩
          · exact Or.inr ⟨q, q1, by omega, q3, dc_an_step T q4 e q2⟩
      rcases dc_rp_last hc with e | hwc
      · rw [e] at ec
        exact s3 x ec hx
      · rcases K c hwc with g | ⟨q, q1, q2, q3, q4⟩
        · rcases dc_rp_last g with e | e
          · omega
          · omega
        · have hcr := (T.1 c w ec).1
          have i1 := (ih q (by omega) (by omega) (by omega)).2 x (by omega) q3
          have i2 := s4 q c ec q4 q1
          omega
/-- w can be reached from 0 round z -/
def dc_Av (E : Nat → Nat → Prop) (z w : Nat) : Prop := z ≠ 0 ∧ dc_Rp E (fun q => q ≠ z) 0 w
theorem dc_ltA {r : Nat} {E : Nat → Nat → Prop} {p : Nat → Nat} (T : dc_Tr r E p) {z w : Nat} (hzw : z < w)
    (H : ∀ y, z < y → dc_An p y w → ∀ x, x < z → ¬ dc_Hp E x y) : ¬ dc_Av E z w := by
  intro hv
  obtain ⟨hz, hv⟩ := hv
  have I : w < z ∨ ∃ x, x < z ∧ dc_Rp E (fun q => z < q ∧ ¬ dc_An p q w) x w := by
    refine dc_rp_ind (fun c => c < z ∨ ∃ x, x < z ∧ dc_Rp E (fun q => z < q ∧ ¬ dc_An p q w) x c) hv (Or.inl (by omega)) ?_
    intro c d _ ic e hd
    by_cases hdz : d < z
    · exact Or.inl hdz
    · have hzd : z < d := by omega
      have ⟨x, hx, hxc⟩ : ∃ x, x < z ∧ dc_Rp E (fun q => z < q ∧ ¬ dc_An p q w) x c := by
        rcases ic with h | h
        · exact ⟨c, h, dc_rp_refl⟩
        · exact h
      by_cases hT : dc_An p d w
      · exfalso
        have K : dc_Rp E (fun q => d < q) x c ∨ ∃ q, z < q ∧ ¬ dc_An p q w ∧ q < d ∧ dc_An p q c := by
          refine dc_rp_ind (fun c => dc_Rp E (fun q => d < q) x c ∨ ∃ q, z < q ∧ ¬ dc_An p q w ∧ q < d ∧ dc_An p q c) hxc (Or.inl dc_rp_refl) ?_
          intro a b _ ia e' hb
          have hbd : b ≠ d := fun h => hb.2 (h ▸ hT)
          by_cases hlt : b < d
          · by_cases hq : ∃ q, z < q ∧ ¬ dc_An p q w ∧ q < d ∧ dc_An p q a ∧ q ≤ b
            · obtain ⟨q, q1, q2, q3, q4, q5⟩ := hq
              exact Or.inr ⟨q, q1, q2, q3, dc_an_step T q4 e' q5⟩
            · exact Or.inr ⟨b, hb.1, hb.2, hlt, dc_an_refl p b⟩
          · rcases ia with g | ⟨q, q1, q2, q3, q4⟩
            · exact Or.inl (dc_rp_snoc g e' (by omega))
            · exact Or.inr ⟨q, q1, q2, q3, dc_an_step T q4 e' (by omega)⟩
        rcases K with g | ⟨q, q1, q2, q3, q4⟩
        · exact H d hzd hT x hx ⟨c, g, e⟩
        · exact q2 (dc_an_trans (dc_an_step T q4 e (by omega)) hT)
      · exact Or.inr ⟨x, hx, dc_rp_snoc hxc e ⟨hzd, hT⟩⟩
  rcases I with h | ⟨x, hx, h⟩
  · omega
  · rcases dc_rp_last h with g | g
    · omega
    · exact g.2 (dc_an_refl p w)
/-- what the search leaves as immediate dominator of w -/
def dc_Id (p sd id : Nat → Nat) (w : Nat) : Prop :=
  ∃ u, dc_An p u w ∧ sd w < u ∧ (∀ x, dc_An p x w → sd w < x → sd u ≤ sd x) ∧ (sd w ≤ sd u → id w = sd w) ∧ (sd u < sd w → id w = id u)
theorem dc_lt {r : Nat} {E : Nat → Nat → Prop} {p sd id : Nat → Nat} (T : dc_Tr r E p) (hs : ∀ w, 0 < w → w < r → dc_Sd E p sd w)
    (hi : ∀ w, 0 < w → w < r → dc_Id p sd id w) :
    ∀ w, 0 < w → w < r → id w < w ∧ dc_An p (id w) w ∧ id w ≤ sd w ∧ ¬ dc_Av E (id w) w ∧ ∀ x, id w < x → x < w → dc_An p x w → dc_Av E x w := by
  have S1 : ∀ w, 0 < w → w < r → dc_Hp E (sd w) w := fun w h0 h1 => (dc_semi T hs (r - w) w h0 h1 (Nat.le_refl _)).1
  have S2 : ∀ w, 0 < w → w < r → ∀ x, x < w → dc_Hp E x w → sd w ≤ x := fun w h0 h1 => (dc_semi T hs (r - w) w h0 h1 (Nat.le_refl _)).2
  have up : ∀ s, s < r → ∀ x, s < x → dc_Rp E (fun q => q ≠ x) 0 s := fun s hs x hx =>
    dc_rp_mono (dc_tp T s hs (dc_an_zero p s)) (fun q hq => by have := hq.2.1; omega)
  intro w
  induction w using Nat.strongRecOn with
  | ind w ih =>
    intro h0 hw
    obtain ⟨u, u1, u2, u3, u4, u5⟩ := hi w h0 hw
    have sw := (hs w h0 hw).1
    have as := dc_hp_an T sw (S1 w h0 hw)
    have uw := u1.1
    have yr : ∀ y, dc_An p y w → y < r := fun y hy => by have := hy.1; omega
    by_cases hc : sd w ≤ sd u
    · rw [u4 hc]
      refine ⟨sw, as, Nat.le_refl _, ?_, ?_⟩
      · refine dc_ltA T sw (fun y hy ha x hx hp => ?_)
        have g1 := S2 y (by omega) (yr y ha) x (by omega) hp
        have g2 := u3 y ha hy
        omega
      · intro x hx hxw ha
        obtain ⟨c, hc, ec⟩ := S1 w h0 hw
        refine ⟨by omega, ?_⟩
        have g1 : dc_Rp E (fun q => q ≠ x) (sd w) c := dc_rp_mono hc (fun q hq => by omega)
        exact dc_rp_snoc (dc_rp_trans (up (sd w) (by omega) x hx) g1) ec (by omega)
    · have hc' : sd u < sd w := by omega
      rw [u5 hc']
      have uw' : u < w := by
        rcases Nat.lt_or_ge u w with g | g
        · exact g
        · exact absurd (show u = w by omega) (fun e => by rw [e] at hc'; omega)
      obtain ⟨i1, i2, i3, i4, i5⟩ := ih u uw' (by omega) (by omega)
      refine ⟨by omega, dc_an_trans i2 u1, by omega, ?_, ?_⟩
      · refine dc_ltA T (by omega) (fun y hy ha x hx hp => ?_)
        have g1 := S2 y (by omega) (yr y ha) x (by omega) hp
        have hys : y ≤ sd w := by
          rcases Nat.lt_or_ge (sd w) y with g | g
          · have := u3 y ha g
            omega
          · exact g
        refine i4 ⟨by omega, ?_⟩
        obtain ⟨c, hc1, ec⟩ := hp
        have g2 : dc_Rp E (fun q => q ≠ id u) x c := dc_rp_mono hc1 (fun q hq => by omega)
        have g3 : dc_Rp E (fun q => q ≠ id u) 0 y := dc_rp_snoc (dc_rp_trans (up x (by omega) (id u) hx) g2) ec (by omega)
        exact dc_rp_trans g3 (dc_rp_mono (dc_tp T u (by omega) (dc_an_mid ha (by omega) uw)) (fun q hq => by have := hq.1; omega))
      · intro x hx hxw ha
        by_cases hxu : x < u
        · obtain ⟨v1, v2⟩ := i5 x hx hxu (dc_an_mid ha (by omega) uw)
          exact ⟨v1, dc_rp_trans v2 (dc_rp_mono (dc_tp T w hw u1) (fun q hq => by have := hq.1; omega))⟩
        · obtain ⟨c, hc1, ec⟩ := S1 w h0 hw
          refine ⟨by omega, ?_⟩
          have g1 : dc_Rp E (fun q => q ≠ x) (sd w) c := dc_rp_mono hc1 (fun q hq => by omega)
          exact dc_rp_snoc (dc_rp_trans (up (sd w) (by omega) x (by omega)) g1) ec (by omega)
/-- the dominators of w are w and those of its immediate dominator -/
theorem dc_dom {r : Nat} {E : Nat → Nat → Prop} {p sd id : Nat → Nat} (T : dc_Tr r E p) (hs : ∀ w, 0 < w → w < r → dc_Sd E p sd w)
    (hi : ∀ w, 0 < w → w < r → dc_Id p sd id w) {w : Nat} (h0 : 0 < w) (hw : w < r) :
    id w < w ∧ dc_Av E w (id w) ∧ ∀ x, dc_Av E x w ↔ (x ≠ w ∧ dc_Av E x (id w)) := by
  obtain ⟨i1, i2, i3, i4, i5⟩ := dc_lt T hs hi w h0 hw
  refine ⟨i1, ⟨by omega, dc_rp_mono (dc_tp T (id w) (by omega) (dc_an_zero p (id w))) (fun q hq => by have := hq.2.1; omega)⟩, ?_⟩
  intro x
  constructor
  · intro hv
    obtain ⟨x0, hv⟩ := hv
    refine ⟨?_, x0, ?_⟩
    · intro e
      rcases dc_rp_last hv with g | g
      · omega
      · exact g e.symm
    · refine Classical.byContradiction (fun hn => i4 ⟨?_, ?_⟩)
      · intro e
        rw [e] at hn
        exact hn dc_rp_refl
      · refine dc_rp_ind (fun c => dc_Rp E (fun q => q ≠ id w) 0 c) hv dc_rp_refl (fun a b ha ia e hb => dc_rp_snoc ia e (fun g => hn ?_))
        rw [← g]
        exact dc_rp_snoc ha e hb
  · intro hv
    obtain ⟨hx, x0, hv⟩ := hv
    refine Classical.byContradiction (fun hn => ?_)
    have ha : dc_An p x w := Classical.byContradiction (fun na => hn ⟨x0, dc_rp_mono (dc_tp T w hw (dc_an_zero p w)) (fun q hq e => na (e ▸ hq.2))⟩)
    have hl := ha.1
    by_cases hx2 : id w < x
    · exact hn (i5 x hx2 (by omega) ha)
    · exact hn ⟨x0, dc_rp_trans hv (dc_rp_mono (dc_tp T w hw i2) (fun q hq => by have := hq.1; omega))⟩
end
section
/-- how many i below n have P -/
noncomputable def dc_cn (P : Nat → Prop) : Nat → Nat
  | 0 => 0
  | n + 1 => dc_cn P n + (@ite Nat (P n) (Classical.propDecidable (P n)) 1 0)
theorem dc_cn_t {P : Nat → Prop} {n : Nat} (h : P n) : dc_cn P (n + 1) = dc_cn P n + 1 := by
  show dc_cn P n + _ = _
  rw [if_pos h]
theorem dc_cn_f {P : Nat → Prop} {n : Nat} (h : ¬ P n) : dc_cn P (n + 1) = dc_cn P n := by
  show dc_cn P n + _ = _
  rw [if_neg h]
  rfl
theorem dc_cn_le (P : Nat → Prop) (n : Nat) : dc_cn P n ≤ n := by
  induction n with
  | zero => exact Nat.le_refl 0
  | succ n ih =>
    by_cases h : P n
    · rw [dc_cn_t h]; omega
    · rw [dc_cn_f h]; omega
theorem dc_cn_congr {P Q : Nat → Prop} {n : Nat} (h : ∀ i, i < n → (P i ↔ Q i)) : dc_cn P n = dc_cn Q n := by
  induction n with
  | zero => rfl
  | succ n ih =>
    have e := ih (fun i hi => h i (by omega))
    have hn := h n (by omega)
    by_cases hp : P n
    · rw [dc_cn_t hp, dc_cn_t (hn.mp hp), e]
    · rw [dc_cn_f hp, dc_cn_f (fun g => hp (hn.mpr g)), e]
theorem dc_cn_zero {P : Nat → Prop} {n : Nat} (h : ∀ i, i < n → ¬ P i) : dc_cn P n = 0 := by
  induction n with
  | zero => rfl
  | succ n ih => rw [dc_cn_f (h n (by omega))]; exact ih (fun i hi => h i (by omega))
theorem dc_cn_all {P : Nat → Prop} {n : Nat} (h : ∀ i, i < n → P i) : dc_cn P n = n := by
  induction n with
  | zero => rfl
  | succ n ih => rw [dc_cn_t (h n (by omega)), ih (fun i hi => h i (by omega))]
theorem dc_cn_add {P Q R : Nat → Prop} {n : Nat} (h : ∀ i, i < n → (P i ↔ (Q i ∨ R i))) (g : ∀ i, i < n → ¬ (Q i ∧ R i)) : dc_cn P n = dc_cn Q n + dc_cn R n := by
  induction n with
  | zero => rfl
  | succ n ih =>
    have e := ih (fun i hi => h i (by omega)) (fun i hi => g i (by omega))
    have hn := h n (by omega)
    have gn := g n (by omega)
    by_cases hq : Q n
    · have hr : ¬ R n := fun z => gn ⟨hq, z⟩
      rw [dc_cn_t (hn.mpr (Or.inl hq)), dc_cn_t hq, dc_cn_f hr]; omega
    · by_cases hr : R n
      · rw [dc_cn_t (hn.mpr (Or.inr hr)), dc_cn_f hq, dc_cn_t hr]; omega
      · rw [dc_cn_f (fun z => (hn.mp z).elim hq hr), dc_cn_f hq, dc_cn_f hr]; omega
theorem dc_cn_one {n a : Nat} (h : a < n) : dc_cn (fun i => i = a) n = 1 := by
  induction n with
  | zero => omega
  | succ n ih =>
    by_cases e : n = a
    · rw [dc_cn_t (P := fun i => i = a) e, dc_cn_zero (fun i hi => by omega)]
    · rw [dc_cn_f (P := fun i => i = a) e]; exact ih (by omega)
theorem dc_cn_ins {P Q : Nat → Prop} {n a : Nat} (ha : a < n) (hq : ¬ Q a) (h : ∀ i, i < n → (P i ↔ (Q i ∨ i = a))) : dc_cn P n = dc_cn Q n + 1 := by
  rw [dc_cn_add (Q := Q) (R := fun i => i = a) h (fun i hi z => hq (z.2 ▸ z.1)), dc_cn_one ha]
theorem dc_cn_map {n : Nat} {f : Nat → Nat} : ∀ (L : Nat) (P : Nat → Prop), (∀ i j, i < j → j < L → f i ≠ f j) → (∀ i, i < L → f i < n) →
    (∀ u, u < n → P u → ∃ k, k < L ∧ f k = u) → dc_cn P n = dc_cn (fun k => P (f k)) L := by
  intro L
  induction L with
  | zero =>
    intro P _ _ h
    rw [dc_cn_zero (fun i hi hp => by obtain ⟨k, hk, _⟩ := h i hi hp; omega)]
    rfl
  | succ L ih =>
    intro P inj hf h
    have e := ih (fun u => P u ∧ u ≠ f L) (fun i j a b => inj i j a (by omega)) (fun i hi => hf i (by omega)) (fun u hu hp => by
      obtain ⟨k, hk, ek⟩ := h u hu hp.1
      have : k ≠ L := fun z => hp.2 (by rw [← ek, z])
      exact ⟨k, by omega, ek⟩)
    have e2 : dc_cn (fun k => P (f k) ∧ f k ≠ f L) L = dc_cn (fun k => P (f k)) L :=
      dc_cn_congr (fun i hi => ⟨fun z => z.1, fun z => ⟨z, inj i L hi (by omega)⟩⟩)
    by_cases hL : P (f L)
    · rw [dc_cn_t (P := fun k => P (f k)) hL, ← e2, ← e]
      refine dc_cn_ins (hf L (by omega)) (fun z => z.2 rfl) (fun i hi => ⟨fun z => ?_, fun z => ?_⟩)
      · by_cases w : i = f L
        · exact Or.inr w
        · exact Or.inl ⟨z, w⟩
      · rcases z with z | z
        · exact z.1
        · rw [z]; exact hL
    · rw [dc_cn_f (P := fun k => P (f k)) hL, ← e2, ← e]
      exact dc_cn_congr (fun i hi => ⟨fun z => ⟨z, fun w => hL (w ▸ z)⟩, fun z => z.1⟩)
/-- q different places below n: q is at most n -/
theorem dc_pig {n q : Nat} {f : Nat → Nat} (inj : ∀ i j, i < j → j < q → f i ≠ f j) (hf : ∀ i, i < q → f i < n) : q ≤ n := by
  have e := dc_cn_map (n := n) q (fun u => ∃ k, k < q ∧ f k = u) inj hf (fun u _ h => h)
  rw [dc_cn_all (P := fun k => ∃ j, j < q ∧ f j = f k) (fun i hi => ⟨i, hi, rfl⟩)] at e
  rw [← e]
  exact dc_cn_le _ n
/-- an int array seen as integers -/
def dc_ti (a : Nat → Int32) : Nat → Int := fun j => (a j).toInt
def dc_iu (f : Nat → Int) (k : Nat) (x : Int) : Nat → Int := fun j => if j = k then x else f j
theorem dc_iu_s {f : Nat → Int} {k : Nat} {x : Int} : dc_iu f k x k = x := if_pos rfl
theorem dc_iu_n {f : Nat → Int} {k j : Nat} {x : Int} (h : j ≠ k) : dc_iu f k x j = f j := if_neg h
theorem dc_ti_upd {a : Nat → Int32} {k : Nat} {x : Int32} : dc_ti (upd a k x) = dc_iu (dc_ti a) k x.toInt := by
  funext j
  unfold dc_ti dc_iu upd
  by_cases h : j = k
  · rw [if_pos h, if_pos h]
  · rw [if_neg h, if_neg h]
/-- a place of naturals written -/
def dc_nu (f : Nat → Nat) (k : Nat) (x : Nat) : Nat → Nat := fun j => if j = k then x else f j
theorem dc_nu_s {f : Nat → Nat} {k x : Nat} : dc_nu f k x k = x := if_pos rfl
theorem dc_nu_n {f : Nat → Nat} {k j x : Nat} (h : j ≠ k) : dc_nu f k x j = f j := if_neg h
theorem dc_cl {x : Int32} {k : Nat} (h : x.toInt = (k : Int)) : x.toNatClampNeg = k := by
  show x.toInt.toNat = k
  omega
theorem dc_in {x : Int32} {k n : Nat} (h : x.toInt = (k : Int)) (hk : k < n) : vp_in x n := vp_in_iff.mpr ⟨by omega, by omega⟩
theorem dc_add {x y : Int32} {z : Int} (h : x.toInt + y.toInt = z) (h1 : -2 ^ 31 ≤ z) (h2 : z < 2 ^ 31) : (x + y).toInt = z := by
  rw [Int32.toInt_add, h, Int.bmod_def]; omega
theorem dc_sub {x y : Int32} {z : Int} (h : x.toInt - y.toInt = z) (h1 : -2 ^ 31 ≤ z) (h2 : z < 2 ^ 31) : (x - y).toInt = z := by
  rw [Int32.toInt_sub, h, Int.bmod_def]; omega
theorem dc_i0 : (0 : Int32).toInt = 0 := by decide
theorem dc_i1 : (1 : Int32).toInt = 1 := by decide
theorem dc_im1 : (-1 : Int32).toInt = -1 := by decide
theorem dc_inc {x : Int32} {k : Nat} (h : x.toInt = (k : Int)) (hk : k < 1000000) : (x + 1).toInt = ((k + 1 : Nat) : Int) :=
  dc_add (z := ((k + 1 : Nat) : Int)) (by rw [h, dc_i1]; omega) (by omega) (by omega)
theorem dc_le {x y : Int32} : x ≤ y ↔ x.toInt ≤ y.toInt := Int32.le_iff_toInt_le
theorem dc_lt' {x y : Int32} : x < y ↔ x.toInt < y.toInt := Int32.lt_iff_toInt_lt
theorem dc_eq {x y : Int32} : x = y ↔ x.toInt = y.toInt := Int32.toInt_inj.symm
/-- two ways, by what the integers say -/
theorem dc_brl {x y : Int32} {A B : Prop} (f : x.toInt ≤ y.toInt → A) (g : y.toInt < x.toInt → B) : (x ≤ y → A) ∧ (¬ x ≤ y → B) :=
  ⟨fun h => f (dc_le.mp h), fun h => g (by rw [dc_le] at h; omega)⟩
theorem dc_brt {x y : Int32} {A B : Prop} (f : x.toInt < y.toInt → A) (g : y.toInt ≤ x.toInt → B) : (x < y → A) ∧ (¬ x < y → B) :=
  ⟨fun h => f (dc_lt'.mp h), fun h => g (by rw [dc_lt'] at h; omega)⟩
theorem dc_bre {x y : Int32} {A B : Prop} (f : x.toInt = y.toInt → A) (g : x.toInt ≠ y.toInt → B) : (x = y → A) ∧ (¬ x = y → B) :=
  ⟨fun h => f (dc_eq.mp h), fun h => g (fun z => h (dc_eq.mpr z))⟩
end
section
/-- an edge u v -/
def dc_Ed (m : Nat) (T H : Nat → Nat) (u v : Nat) : Prop := ∃ e, e < m ∧ T e = u ∧ H e = v
/-- x is the first e in [lo, hi) with T e = v, or -1 -/
def dc_Nx (T : Nat → Nat) (v lo hi : Nat) (x : Int) : Prop :=
  (x = -1 ∧ ∀ e, lo ≤ e → e < hi → T e ≠ v) ∨ ∃ e : Nat, x = (e : Int) ∧ lo ≤ e ∧ e < hi ∧ T e = v ∧ ∀ j, lo ≤ j → j < e → T j ≠ v
theorem dc_nx_0 {T : Nat → Nat} {v hi : Nat} {x : Int} (h : x = -1) : dc_Nx T v hi hi x := Or.inl ⟨h, fun e h1 h2 => absurd h1 (by omega)⟩
theorem dc_nx_eq {T : Nat → Nat} {v i hi : Nat} (h : T i = v) (hi' : i < hi) : dc_Nx T v i hi (i : Int) :=
  Or.inr ⟨i, rfl, Nat.le_refl i, hi', h, fun j h1 h2 => absurd h1 (by omega)⟩
theorem dc_nx_ne {T : Nat → Nat} {v i hi : Nat} {x : Int} (h : T i ≠ v) (g : dc_Nx T v (i + 1) hi x) : dc_Nx T v i hi x := by
  have h' : ∀ j, j = i → T j ≠ v := fun j e => by rw [e]; exact h
  rcases g with ⟨g1, g2⟩ | ⟨e, g1, g2, g3, g4, g5⟩
  · refine Or.inl ⟨g1, fun e h1 h2 => ?_⟩
    by_cases z : e = i
    · exact h' e z
    · exact g2 e (by omega) h2
  · refine Or.inr ⟨e, g1, by omega, g3, g4, fun j h1 h2 => ?_⟩
    by_cases z : j = i
    · exact h' j z
    · exact g5 j (by omega) h2
theorem dc_nx_none {T : Nat → Nat} {v lo hi : Nat} {x : Int} (g : dc_Nx T v lo hi x) (h : x = -1) : ∀ e, lo ≤ e → e < hi → T e ≠ v := by
  rcases g with ⟨_, g2⟩ | ⟨e, g1, _⟩
  · exact g2
  · omega
theorem dc_nx_some {T : Nat → Nat} {v lo hi : Nat} {x : Int} (g : dc_Nx T v lo hi x) (h : x ≠ -1) :
    ∃ e : Nat, x = (e : Int) ∧ lo ≤ e ∧ e < hi ∧ T e = v ∧ ∀ j, lo ≤ j → j < e → T j ≠ v := by
  rcases g with ⟨g1, _⟩ | g
  · exact absurd g1 h
  · exact g
/-- chains of the edges from lo on: F the first ones, G the next ones -/
def dc_Ch (n m : Nat) (T : Nat → Nat) (F G : Nat → Int) (lo : Nat) : Prop :=
  (∀ v, v < n → dc_Nx T v lo m (F v)) ∧ ∀ e, lo ≤ e → e < m → dc_Nx T (T e) (e + 1) m (G e)
theorem dc_ch_step {n m i : Nat} {T : Nat → Nat} {F G : Nat → Int} {x y : Int} (hi : i < m) (hT : T i < n) (h : dc_Ch n m T F G (i + 1)) (hx : x = (i : Int)) (hy : y = F (T i)) :
    dc_Ch n m T (dc_iu F (T i) x) (dc_iu G i y) i := by
  constructor
  · intro v hv
    by_cases e : v = T i
    · rw [e, dc_iu_s, hx]
      exact dc_nx_eq rfl hi
    · rw [dc_iu_n e]
      exact dc_nx_ne (fun z => e z.symm) (h.1 v hv)
  · intro e h1 h2
    by_cases z : e = i
    · rw [z, dc_iu_s, hy]
      exact h.1 (T i) hT
    · rw [dc_iu_n z]
      exact h.2 e (by omega) h2
/-- the graph in the state -/
def dc_G (n m : Nat) (T H : Nat → Nat) (gn ge : Int32) (a1 a2 : Nat → Int32) : Prop :=
  2 ≤ n ∧ n ≤ 24 ∧ m ≤ 60 ∧ gn.toInt = (n : Int) ∧ ge.toInt = (m : Int) ∧
  ∀ e, e < m → (a1 e).toInt = (T e : Int) ∧ T e < n ∧ (a2 e).toInt = (H e : Int) ∧ H e < n
theorem dc_chain37 {post : St2 → Prop} {gn ge gr gc gq gf : Int32} {a1 a2 a7 a8 a9 a10 a11 a12 a13 a14 a15 a16 a17 a18 a19 a20 a21 a22 a23 a24 : Nat → Int32} {n m : Nat} {T H : Nat → Nat} (g : dc_G n m T H gn ge a1 a2)
    (K : ∀ a3 a4 a5 a6, dc_Ch n m T (dc_ti a3) (dc_ti a4) 0 → dc_Ch n m H (dc_ti a5) (dc_ti a6) 0 → post (gn, ge, gr, gc, gq, gf, a1, a2, a3, a4, a5, a6, a7, a8, a9, a10, a11, a12, a13, a14, a15, a16, a17, a18, a19, a20, a21, a22, a23, a24)) :
    ∀ (i : Nat) (x1 : Int32) (a3 a4 a5 a6 : Nat → Int32), x1.toInt = (i : Int) - 1 → i ≤ m → dc_Ch n m T (dc_ti a3) (dc_ti a4) i → dc_Ch n m H (dc_ti a5) (dc_ti a6) i →
      wX_chain_37 post gn ge gr gc gq gf (i + 1) x1 a1 a2 a3 a4 a5 a6 a7 a8 a9 a10 a11 a12 a13 a14 a15 a16 a17 a18 a19 a20 a21 a22 a23 a24 := by
  obtain ⟨n2, n24, m60, en, em, ed⟩ := g
  intro i
  induction i with
  | zero =>
    intro x1 a3 a4 a5 a6 hx _ h1 h2
    exact br_t (dc_lt'.mpr (by rw [hx, dc_i0]; omega)) (K a3 a4 a5 a6 h1 h2)
  | succ i ih =>
    intro x1 a3 a4 a5 a6 hx hi h1 h2
    have hx' : x1.toInt = (i : Int) := by omega
    obtain ⟨t1, t2, h1', h2'⟩ := ed i (by omega)
    refine br_f (fun z => by rw [dc_lt', dc_i0] at z; omega) ?_
    rw [dc_cl hx', dc_cl t1, dc_cl h1']
    have v1 : vp_in x1 60 := dc_in hx' (by omega)
    have v2 : vp_in (a1 i) 24 := dc_in t1 (by omega)
    have v3 : vp_in (a2 i) 24 := dc_in h1' (by omega)
    refine ⟨v1, v2, v1, fun b4 e4 => ⟨v1, v2, fun b3 e3 => ⟨v1, v3, v1, fun b6 e6 => ⟨v1, v3, fun b5 e5 => fun y ey => ?_⟩⟩⟩⟩
    subst e4 e3 e6 e5 ey
    refine ih _ _ _ _ _ (dc_add (by rw [hx', dc_im1]; omega) (by omega) (by omega)) (by omega) ?_ ?_
    · rw [dc_ti_upd, dc_ti_upd]
      exact dc_ch_step (by omega) t2 h1 hx' rfl
    · rw [dc_ti_upd, dc_ti_upd]
      exact dc_ch_step (by omega) h2' h2 hx' rfl
theorem dc_chain2 {post : St2 → Prop} {gn ge gr gc gq gf : Int32} {a1 a2 a4 a6 a7 a8 a9 a10 a11 a12 a13 a14 a15 a16 a17 a18 a19 a20 a21 a22 a23 a24 : Nat → Int32} {n m : Nat} {T H : Nat → Nat} (g : dc_G n m T H gn ge a1 a2)
    (K : ∀ a3 a4 a5 a6, dc_Ch n m T (dc_ti a3) (dc_ti a4) 0 → dc_Ch n m H (dc_ti a5) (dc_ti a6) 0 → post (gn, ge, gr, gc, gq, gf, a1, a2, a3, a4, a5, a6, a7, a8, a9, a10, a11, a12, a13, a14, a15, a16, a17, a18, a19, a20, a21, a22, a23, a24)) :
    ∀ (k i : Nat) (x1 : Int32) (a3 a5 : Nat → Int32), i + k = n → x1.toInt = (i : Int) → (∀ v, v < i → (a3 v).toInt = -1 ∧ (a5 v).toInt = -1) →
      wX_chain_2 post gn ge gr gc gq gf (k + 1) x1 a1 a2 a3 a4 a5 a6 a7 a8 a9 a10 a11 a12 a13 a14 a15 a16 a17 a18 a19 a20 a21 a22 a23 a24 := by
  have g' := g
  obtain ⟨n2, n24, m60, en, em, ed⟩ := g'
  intro k
  induction k with
  | zero =>
    intro i x1 a3 a5 hk hx h
    refine br_t (dc_le.mpr (by omega)) (fun y ey => ⟨m + 1, ?_⟩)
    refine dc_chain37 g K m y a3 a4 a5 a6 ?_ (Nat.le_refl m) ?_ ?_
    · rw [ey]
      exact dc_sub (by rw [em, dc_i1]) (by omega) (by omega)
    · exact ⟨fun v hv => dc_nx_0 (h v (by omega)).1, fun e h1 h2 => absurd h1 (by omega)⟩
    · exact ⟨fun v hv => dc_nx_0 (h v (by omega)).2, fun e h1 h2 => absurd h1 (by omega)⟩
  | succ k ih =>
    intro i x1 a3 a5 hk hx h
    refine br_f (fun z => by rw [dc_le] at z; omega) ?_
    rw [dc_cl hx]
    have v1 : vp_in x1 24 := dc_in hx (by omega)
    refine ⟨v1, fun b3 e3 => ⟨v1, fun b5 e5 => fun y ey => ?_⟩⟩
    subst e3 e5 ey
    refine ih (i + 1) _ _ _ (by omega) (dc_inc hx (by omega)) (fun v hv => ?_)
    by_cases z : v = i
    · rw [z, pk_us, pk_us]
      exact ⟨dc_im1, dc_im1⟩
    · rw [pk_un z, pk_un z]
      exact h v (by omega)
theorem dc_chain {post : St2 → Prop} {gn ge gr gc gq gf : Int32} {a1 a2 a3 a4 a5 a6 a7 a8 a9 a10 a11 a12 a13 a14 a15 a16 a17 a18 a19 a20 a21 a22 a23 a24 : Nat → Int32} {n m : Nat} {T H : Nat → Nat} (g : dc_G n m T H gn ge a1 a2)
    (K : ∀ a3 a4 a5 a6, dc_Ch n m T (dc_ti a3) (dc_ti a4) 0 → dc_Ch n m H (dc_ti a5) (dc_ti a6) 0 → post (gn, ge, gr, gc, gq, gf, a1, a2, a3, a4, a5, a6, a7, a8, a9, a10, a11, a12, a13, a14, a15, a16, a17, a18, a19, a20, a21, a22, a23, a24)) : wpX_chain post (gn, ge, gr, gc, gq, gf, a1, a2, a3, a4, a5, a6, a7, a8, a9, a10, a11, a12, a13, a14, a15, a16, a17, a18, a19, a20, a21, a22, a23, a24) :=
  Exists.intro (n + 1) (dc_chain2 g K n 0 0 a3 a5 (by omega) dc_i0 (fun v hv => absurd hv (by omega)))
end
section
/-- the depth-first search under way -/
def dc_Df (n m : Nat) (T H : Nat → Nat) (r D st : Nat) (at' p c sk : Nat → Nat) (cu ks nu an pa : Nat → Int) : Prop :=
  (0 < r ∧ r ≤ n ∧ D ≤ r ∧ at' 0 = 0) ∧
  (∀ i, i < r → at' i < n ∧ nu (at' i) = (i : Int) ∧ an i = (at' i : Int)) ∧
  (∀ v, v < n → nu v = -1 ∨ ∃ i, i < r ∧ v = at' i) ∧
  (∀ i, 0 < i → i < r → p i < i ∧ pa (at' i) = (at' (p i) : Int) ∧ dc_Ed m T H (at' (p i)) (at' i)) ∧
  (∀ j, 0 < j → j < r → ∀ k, p j < k → k ≤ j → p j ≤ p k) ∧
  (∀ j, j < D → sk j < r ∧ ks j = (at' (sk j) : Int) ∧ dc_An p (sk j) (r - 1)) ∧
  (∀ i j, i < j → j < D → sk i < sk j) ∧
  (∀ v, v < n → c v ≤ m ∧ dc_Nx T v (c v) m (cu v)) ∧
  (∀ e, e < m → e < c (T e) → 0 ≤ nu (H e)) ∧
  (∀ i, i < r → (∃ j, j < D ∧ sk j = i) ∨ ∀ e, e < m → T e = at' i → e < c (at' i)) ∧
  (∀ i j, i ≤ j → j < r → dc_Ed m T H (at' i) (at' j) → dc_An p i j) ∧
  st + D = dc_cn (fun e => e < c (T e)) m + r
/-- the depth-first search done: r vertices reached, at' their order, p their parents (all in numbers) -/
def dc_Dn (n m : Nat) (T H : Nat → Nat) (r : Nat) (at' p : Nat → Nat) (nu an pa : Nat → Int) : Prop :=
  (0 < r ∧ r ≤ n ∧ at' 0 = 0) ∧
  (∀ i, i < r → at' i < n ∧ nu (at' i) = (i : Int) ∧ an i = (at' i : Int)) ∧
  (∀ v, v < n → nu v = -1 ∨ ∃ i, i < r ∧ v = at' i) ∧
  (∀ i, 0 < i → i < r → p i < i ∧ pa (at' i) = (at' (p i) : Int) ∧ dc_Ed m T H (at' (p i)) (at' i)) ∧
  (∀ j, 0 < j → j < r → ∀ k, p j < k → k ≤ j → p j ≤ p k) ∧
  (∀ i j, i ≤ j → j < r → dc_Ed m T H (at' i) (at' j) → dc_An p i j) ∧
  (∀ i e, i < r → e < m → T e = at' i → 0 ≤ nu (H e))
theorem dc_df_end {n m r st : Nat} {T H at' p c sk : Nat → Nat} {cu ks nu an pa : Nat → Int} (h : dc_Df n m T H r 0 st at' p c sk cu ks nu an pa) :
    dc_Dn n m T H r at' p nu an pa := by
  obtain ⟨h1, h2, h3, h4, h5, h6, h7, h8, h9, h10, h11, h12⟩ := h
  refine ⟨⟨h1.1, h1.2.1, h1.2.2.2⟩, h2, h3, h4, h5, h11, fun i e hi he ht => ?_⟩
  rcases h10 i hi with ⟨j, hj, _⟩ | g
  · omega
  · exact h9 e he (by rw [ht]; exact g e he ht)
theorem dc_df_pop {n m r D st : Nat} {T H at' p c sk : Nat → Nat} {cu ks nu an pa : Nat → Int} (h : dc_Df n m T H r (D + 1) st at' p c sk cu ks nu an pa)
    (hc : cu (at' (sk D)) = -1) : dc_Df n m T H r D (st + 1) at' p c sk cu ks nu an pa := by
  obtain ⟨h1, h2, h3, h4, h5, h6, h7, h8, h9, h10, h11, h12⟩ := h
  refine ⟨⟨h1.1, h1.2.1, by omega, h1.2.2.2⟩, h2, h3, h4, h5, fun j hj => h6 j (by omega), fun i j a b => h7 i j a (by omega), h8, h9, fun i hi => ?_, h11, by omega⟩
  rcases h10 i hi with ⟨j, hj, ej⟩ | g
  · by_cases z : j = D
    · refine Or.inr (fun e he ht => ?_)
      rw [z] at ej
      rw [← ej] at ht ⊢
      rcases Nat.lt_or_ge e (c (at' (sk D))) with g | g
      · exact g
      · exact absurd ht (dc_nx_none (h8 _ (h2 _ (h6 D (by omega)).1).1).2 hc e g he)
    · exact Or.inl ⟨j, by omega, ej⟩
  · exact Or.inr g
/-- the cursor of v moves past e -/
theorem dc_df_cur {n m v e : Nat} {T c : Nat → Nat} {cu on : Nat → Int} {x : Int} (h8 : ∀ v, v < n → c v ≤ m ∧ dc_Nx T v (c v) m (cu v))
    (hon : ∀ e, e < m → dc_Nx T (T e) (e + 1) m (on e)) (hv : v < n) (he : cu v = (e : Int)) (hx : x = on e) :
    e < m ∧ T e = v ∧ c v ≤ e ∧ (∀ v', v' < n → dc_nu c v (e + 1) v' ≤ m ∧ dc_Nx T v' (dc_nu c v (e + 1) v') m (dc_iu cu v x v')) ∧
    (∀ j, j < m → (j < dc_nu c v (e + 1) (T j) ↔ (j < c (T j) ∨ j = e))) := by
  obtain ⟨e', e1, e2, e3, e4, e5⟩ := dc_nx_some (h8 v hv).2 (by omega)
  have ee : e' = e := by omega
  subst ee
  refine ⟨e3, e4, e2, ?_, ?_⟩
  · intro v' hv'
    by_cases z : v' = v
    · rw [z, dc_nu_s, dc_iu_s, hx]
      refine ⟨by omega, ?_⟩
      have := hon e' e3
      rw [e4] at this
      exact this
    · rw [dc_nu_n z, dc_iu_n z]
      exact h8 v' hv'
  · intro j hj
    by_cases z : T j = v
    · rw [z, dc_nu_s]
      constructor
      · intro q
        by_cases w : j = e'
        · exact Or.inr w
        · refine Or.inl ?_
          rcases Nat.lt_or_ge j (c v) with g | g
          · exact g
          · exact absurd z (e5 j g (by omega))
      · intro q
        rcases q with q | q
        · omega
        · omega
    · rw [dc_nu_n z]
      constructor
      · exact fun q => Or.inl q
      · intro q
        rcases q with q | q
        · exact q
        · rw [q] at z
          exact absurd e4 z
theorem dc_df_skip {n m r D st e : Nat} {T H at' p c sk : Nat → Nat} {cu ks nu an pa on : Nat → Int} {x : Int} (h : dc_Df n m T H r (D + 1) st at' p c sk cu ks nu an pa)
    (hon : ∀ e, e < m → dc_Nx T (T e) (e + 1) m (on e)) (he : cu (at' (sk D)) = (e : Int)) (hn : 0 ≤ nu (H e)) (hx : x = on e) :
    dc_Df n m T H r (D + 1) (st + 1) at' p (dc_nu c (at' (sk D)) (e + 1)) sk (dc_iu cu (at' (sk D)) x) ks nu an pa := by
  obtain ⟨h1, h2, h3, h4, h5, h6, h7, h8, h9, h10, h11, h12⟩ := h
  obtain ⟨k1, k2, k3, k4, k5⟩ := dc_df_cur h8 hon (h2 _ (h6 D (by omega)).1).1 he hx
  refine ⟨h1, h2, h3, h4, h5, h6, h7, k4, fun j hj hc => ?_, fun i hi => ?_, h11, ?_⟩
  · rcases (k5 j hj).mp hc with g | g
    · exact h9 j hj g
    · rw [g]; exact hn
  · rcases h10 i hi with g | g
    · exact Or.inl g
    · refine Or.inr (fun j hj ht => ?_)
      have := (k5 j hj).mpr (Or.inl (by rw [ht]; exact g j hj ht))
      rw [ht] at this
      exact this
  · rw [dc_cn_ins k1 (by rw [k2]; omega) k5]
    omega
theorem dc_df_push {n m r D st e : Nat} {T H at' p c sk : Nat → Nat} {cu ks nu an pa on : Nat → Int} {x : Int} (h : dc_Df n m T H r (D + 1) st at' p c sk cu ks nu an pa)
    (hH : ∀ e, e < m → H e < n)
    (hon : ∀ e, e < m → dc_Nx T (T e) (e + 1) m (on e)) (he : cu (at' (sk D)) = (e : Int)) (hn : nu (H e) < 0) (hx : x = on e) :
    r + 1 ≤ n ∧ dc_Df n m T H (r + 1) (D + 2) (st + 1) (dc_nu at' r (H e)) (dc_nu p r (sk D)) (dc_nu c (at' (sk D)) (e + 1)) (dc_nu sk (D + 1) r)
      (dc_iu cu (at' (sk D)) x) (dc_iu ks (D + 1) (H e : Int)) (dc_iu nu (H e) (r : Int)) (dc_iu an r (H e : Int)) (dc_iu pa (H e) (at' (sk D) : Int)) := by
  obtain ⟨h1, h2, h3, h4, h5, h6, h7, h8, h9, h10, h11, h12⟩ := h
  obtain ⟨s1, s2, s3⟩ := h6 D (by omega)
  obtain ⟨k1, k2, k3, k4, k5⟩ := dc_df_cur h8 hon (h2 _ s1).1 he hx
  have hw := hH e k1
  have aw : ∀ i, i < r → at' i ≠ H e := fun i hi z => by
    have := (h2 i hi).2.1
    rw [z] at this
    omega
  have atr : ∀ i, i < r → dc_nu at' r (H e) i = at' i := fun i hi => dc_nu_n (by omega)
  have ptr : ∀ i, i < r → dc_nu p r (sk D) i = p i := fun i hi => dc_nu_n (by omega)
  have hr : r + 1 ≤ n := by
    refine dc_pig (f := dc_nu at' r (H e)) (fun i j a b => ?_) (fun i hi => ?_)
    · rw [atr i (by omega)]
      by_cases z : j = r
      · rw [z, dc_nu_s]
        exact aw i (by omega)
      · rw [atr j (by omega)]
        intro q
        have q1 := (h2 i (by omega)).2.1
        have q2 := (h2 j (by omega)).2.1
        rw [q] at q1
        omega
    · by_cases z : i = r
      · rw [z, dc_nu_s]; exact hw
      · rw [atr i (by omega)]; exact (h2 i (by omega)).1
  have anr : ∀ j, j < D + 1 → dc_An (dc_nu p r (sk D)) (sk j) r := by
    intro j hj
    obtain ⟨q1, q2, q3⟩ := h6 j hj
    refine ⟨by omega, fun k ka kb => ?_⟩
    by_cases z : k = r
    · rw [z, dc_nu_s]
      by_cases w : j = D
      · rw [w]; exact Nat.le_refl _
      · exact Nat.le_of_lt (h7 j D (by omega) (by omega))
    · rw [ptr k (by omega)]
      exact q3.2 k ka (by omega)
  refine ⟨hr, ⟨by omega, hr, by omega, by rw [atr 0 h1.1]; exact h1.2.2.2⟩, ?_, ?_, ?_, ?_, ?_, ?_, k4, ?_, ?_, ?_, ?_⟩
  · intro i hi
    by_cases z : i = r
    · rw [z, dc_nu_s, dc_iu_s, dc_iu_s]
      exact ⟨hw, rfl, rfl⟩
    · rw [atr i (by omega), dc_iu_n (aw i (by omega)), dc_iu_n z]
      exact h2 i (by omega)
  · intro v hv
    by_cases z : v = H e
    · exact Or.inr ⟨r, by omega, by rw [dc_nu_s]; exact z⟩
    · rw [dc_iu_n z]
      rcases h3 v hv with g | ⟨i, hi, g⟩
      · exact Or.inl g
      · exact Or.inr ⟨i, by omega, by rw [atr i hi]; exact g⟩
  · intro i h0 hi
    by_cases z : i = r
    · rw [z, dc_nu_s, dc_nu_s, dc_iu_s, atr _ s1]
      exact ⟨s1, rfl, e, k1, k2, rfl⟩
    · have q := h4 i h0 (by omega)
      rw [ptr i (by omega), atr i (by omega), atr (p i) (by omega), dc_iu_n (aw i (by omega))]
      exact q
  · intro j h0 hj k ka kb
    by_cases z : j = r
    · rw [z, dc_nu_s] at ka ⊢
      exact (anr D (by omega)).2 k ka (by omega)
    · rw [ptr j (by omega)] at ka ⊢
      rw [ptr k (by omega)]
      exact h5 j h0 (by omega) k ka kb
  · intro j hj
    by_cases z : j = D + 1
    · rw [z, dc_nu_s, dc_iu_s, dc_nu_s]
      exact ⟨by omega, rfl, dc_an_refl _ _⟩
    · rw [dc_nu_n z, dc_iu_n z]
      obtain ⟨q1, q2, q3⟩ := h6 j (by omega)
      rw [atr _ q1]
      exact ⟨by omega, q2, anr j (by omega)⟩
  · intro i j a b
    by_cases z : j = D + 1
    · rw [z, dc_nu_s, dc_nu_n (by omega)]
      exact (h6 i (by omega)).1
    · rw [dc_nu_n z, dc_nu_n (by omega)]
      exact h7 i j a (by omega)
  · intro j hj hc
    by_cases z : H j = H e
    · rw [z, dc_iu_s]; omega
    · rw [dc_iu_n z]
      rcases (k5 j hj).mp hc with g | g
      · exact h9 j hj g
      · exact absurd (by rw [g]) z
  · intro i hi
    by_cases z : i = r
    · exact Or.inl ⟨D + 1, by omega, by rw [dc_nu_s]; exact z.symm⟩
    · rcases h10 i (by omega) with ⟨j, hj, ej⟩ | g
      · exact Or.inl ⟨j, by omega, by rw [dc_nu_n (by omega)]; exact ej⟩
      · refine Or.inr (fun j hj ht => ?_)
        rw [atr i (by omega)] at ht ⊢
        have := (k5 j hj).mpr (Or.inl (by rw [ht]; exact g j hj ht))
        rw [ht] at this
        exact this
  · intro i j hij hj hE
    by_cases z : j = r
    · by_cases w : i = r
      · rw [z, w]; exact dc_an_refl _ _
      · rw [z, dc_nu_s, atr i (by omega)] at hE
        obtain ⟨e', e1, e2, e3⟩ := hE
        rw [z]
        rcases h10 i (by omega) with ⟨q, hq, eq⟩ | g
        · rw [← eq]; exact anr q hq
        · have := h9 e' e1 (by rw [e2]; exact g e' e1 e2)
          rw [e3] at this
          omega
    · rw [atr i (by omega), atr j (by omega)] at hE
      exact dc_an_ext (r := r) (fun k hk => ptr k hk) (by omega) (h11 i j hij (by omega) hE)
  · rw [dc_cn_ins k1 (by rw [k2]; omega) k5]
    omega
theorem dc_df_le {n m r D st : Nat} {T H at' p c sk : Nat → Nat} {cu ks nu an pa : Nat → Int} (h : dc_Df n m T H r D st at' p c sk cu ks nu an pa) : st ≤ m + n := by
  obtain ⟨h1, h2, h3, h4, h5, h6, h7, h8, h9, h10, h11, h12⟩ := h
  have := dc_cn_le (fun e => e < c (T e)) m
  omega
theorem dc_df_0 {n m : Nat} {T H : Nat → Nat} {cu ks nu an pa : Nat → Int} (hn : 0 < n) (hcu : ∀ v, v < n → dc_Nx T v 0 m (cu v)) (hk : ks 0 = 0) (h0 : nu 0 = 0)
    (hnu : ∀ v, v < n → v ≠ 0 → nu v = -1) (han : an 0 = 0) : dc_Df n m T H 1 1 0 (fun _ => 0) (fun _ => 0) (fun _ => 0) (fun _ => 0) cu ks nu an pa := by
  refine ⟨⟨by omega, by omega, by omega, rfl⟩, ?_, ?_, ?_, ?_, ?_, ?_, ?_, ?_, ?_, ?_, ?_⟩
  · intro i hi
    have : i = 0 := by omega
    rw [this]
    exact ⟨hn, h0, han⟩
  · intro v hv
    by_cases z : v = 0
    · exact Or.inr ⟨0, by omega, z⟩
    · exact Or.inl (hnu v hv z)
  · intro i h0 h1
    exact absurd h0 (by omega)
  · intro j h0 h1
    exact absurd h0 (by omega)
  · intro j hj
    have : j = 0 := by omega
    rw [this]
    exact ⟨Nat.zero_lt_one, hk, dc_an_refl _ _⟩
  · intro i j a b
    exact absurd a (by omega)
  · intro v hv
    exact ⟨Nat.zero_le m, hcu v hv⟩
  · intro e _ he
    exact absurd he (Nat.not_lt_zero e)
  · intro i hi
    exact Or.inl ⟨0, Nat.zero_lt_one, show 0 = i by omega⟩
  · intro i j a b _
    have h1 : i = 0 := by omega
    have h2 : j = 0 := by omega
    rw [h1, h2]
    exact dc_an_refl _ _
  · rw [dc_cn_zero (fun i _ z => absurd z (Nat.not_lt_zero i))]
end
section
theorem dc_i0' : (0 : Int32).toInt = ((0 : Nat) : Int) := by decide
theorem dc_i1' : (1 : Int32).toInt = ((1 : Nat) : Int) := by decide
theorem dc_i120 : (120 : Int32).toInt = 120 := by decide
theorem dc_i60 : (60 : Int32).toInt = 60 := by decide
theorem dc_arrive {post : St2 → Prop} {gn ge gr gc gq gf : Int32} {a1 a2 a3 a4 a5 a6 a7 a8 a9 a10 a11 a12 a13 a14 a15 a16 a17 a18 a19 a20 a21 a22 a23 a24 : Nat → Int32} {p0 p1 : Int32} {v r : Nat} (h0 : p0.toInt = (v : Int)) (hv : v < 24) (hr : gr.toInt = (r : Int)) (hr' : r < 24)
    (K : ∀ y : Int32, y.toInt = ((r + 1 : Nat) : Int) → post (gn, ge, y, gc, gq, gf, a1, a2, a3, a4, a5, a6, a7, a8, upd a9 v gr, upd a10 r p0, upd a11 v p1, a12, a13, a14, a15, a16, a17, a18, a19, a20, a21, a22, a23, a24)) : wpX_arrive post (gn, ge, gr, gc, gq, gf, a1, a2, a3, a4, a5, a6, a7, a8, a9, a10, a11, a12, a13, a14, a15, a16, a17, a18, a19, a20, a21, a22, a23, a24) p0 p1 := by
  unfold wpX_arrive
  dsimp only
  rw [dc_cl h0, dc_cl hr]
  refine ⟨dc_in h0 hv, fun b9 e9 => ⟨dc_in hr hr', fun b10 e10 => ⟨dc_in h0 hv, fun b11 e11 => fun y ey => ?_⟩⟩⟩
  subst e9 e10 e11
  exact K y (by rw [ey]; exact dc_inc hr (by omega))
theorem dc_nv57 {post : St2 → Prop} {gn ge gc gq gf : Int32} {a1 a2 a3 a4 a5 a6 a12 a13 a14 a15 a16 a17 a18 a19 a20 a21 a22 a23 a24 : Nat → Int32} {n m : Nat} {T H : Nat → Nat} (g : dc_G n m T H gn ge a1 a2)
    (hch : ∀ e, e < m → dc_Nx T (T e) (e + 1) m (dc_ti a4 e))
    (K : ∀ gr a7 a8 a9 a10 a11 r at' p, gr.toInt = ((r : Nat) : Int) → dc_Dn n m T H r at' p (dc_ti a9) (dc_ti a10) (dc_ti a11) → post (gn, ge, gr, gc, gq, gf, a1, a2, a3, a4, a5, a6, a7, a8, a9, a10, a11, a12, a13, a14, a15, a16, a17, a18, a19, a20, a21, a22, a23, a24)) :
    ∀ (f : Nat) (x1 x2 gr : Int32) (a7 a8 a9 a10 a11 : Nat → Int32) (r D st : Nat) (at' p c sk : Nat → Nat), 120 ≤ st + f → x1.toInt = (D : Int) - 1 → x2.toInt = (st : Int) →
      gr.toInt = (r : Int) → dc_Df n m T H r D st at' p c sk (dc_ti a7) (dc_ti a8) (dc_ti a9) (dc_ti a10) (dc_ti a11) →
      wX_numberVertices_57 post f x1 x2 gn ge gr gc gq gf a1 a2 a3 a4 a5 a6 a7 a8 a9 a10 a11 a12 a13 a14 a15 a16 a17 a18 a19 a20 a21 a22 a23 a24 := by
  obtain ⟨n2, n24, m60, en, em, ed⟩ := g
  intro f
  induction f with
  | zero =>
    intro x1 x2 gr a7 a8 a9 a10 a11 r D st at' p c sk hf hx1 hx2 hr h
    have := dc_df_le h
    omega
  | succ f ih =>
    intro x1 x2 gr a7 a8 a9 a10 a11 r D st at' p c sk hf hx1 hx2 hr h
    have hst := dc_df_le h
    refine br_f (fun z => by rw [dc_le, hx2, dc_i120] at z; omega) ?_
    rcases Nat.eq_zero_or_pos D with hD | hD
    · subst hD
      exact br_t (dc_lt'.mpr (by rw [hx1, dc_i0]; omega)) (K gr a7 a8 a9 a10 a11 r at' p hr (dc_df_end h))
    · obtain ⟨D', rfl⟩ : ∃ D', D = D' + 1 := ⟨D - 1, by omega⟩
      have hx1' : x1.toInt = (D' : Int) := by omega
      refine br_f (fun z => by rw [dc_lt', hx1', dc_i0] at z; omega) ?_
      have hh := h
      obtain ⟨q1, q2, q3, q4, q5, q6, q7, q8, q9, q10, q11, q12⟩ := hh
      obtain ⟨s1, s2, s3⟩ := q6 D' (by omega)
      obtain ⟨w1, w2, w3⟩ := q2 _ s1
      rw [dc_cl hx1']
      refine ⟨dc_in hx1' (by omega), fun x3 e3 => ?_⟩
      have h3 : x3.toInt = (at' (sk D') : Int) := by rw [e3]; exact s2
      rw [dc_cl h3]
      refine ⟨dc_in h3 (by omega), fun x4 e4 => ?_⟩
      have h4 : x4.toInt = dc_ti a7 (at' (sk D')) := by rw [e4]; rfl
      refine dc_bre (fun z => ?_) (fun z => ?_)
      · intro y1 ey1 y2 ey2
        refine ih y1 y2 gr a7 a8 a9 a10 a11 r D' (st + 1) at' p c sk (by omega) ?_ ?_ hr (dc_df_pop h (by rw [← h4, z, dc_im1]))
        · rw [ey1]
          exact dc_add (by rw [hx1', dc_im1]; omega) (by omega) (by omega)
        · rw [ey2]
          exact dc_inc hx2 (by omega)
      · obtain ⟨e, e1, e2, e3', e4', e5'⟩ := dc_nx_some (q8 _ w1).2 (by rw [← h4]; rw [dc_im1] at z; exact z)
        have h4' : x4.toInt = (e : Int) := by rw [h4, e1]
        rw [dc_cl h4']
        refine ⟨dc_in h4' (by omega), dc_in h3 (by omega), fun b7 e7 => ⟨dc_in h4' (by omega), fun x5 e5 => ?_⟩⟩
        obtain ⟨t1, t2, t3, t4⟩ := ed e e3'
        have h5 : x5.toInt = (H e : Int) := by rw [e5]; exact t3
        rw [dc_cl h5]
        refine ⟨dc_in h5 (by omega), ?_⟩
        subst e7
        refine dc_brl (fun z => ?_) (fun z => ?_)
        · intro y2 ey2
          refine ih x1 y2 gr _ a8 a9 a10 a11 r (D' + 1) (st + 1) at' p (dc_nu c (at' (sk D')) (e + 1)) sk (by omega) hx1 ?_ hr ?_
          · rw [ey2]
            exact dc_inc hx2 (by omega)
          · rw [dc_ti_upd]
            exact dc_df_skip (on := dc_ti a4) h hch e1 (by rw [dc_i0] at z; exact z) rfl
        · have hn : dc_ti a9 (H e) < 0 := by rw [dc_i0] at z; exact z
          obtain ⟨r1, P⟩ := dc_df_push (on := dc_ti a4) h (fun e he => (ed e he).2.2.2) hch e1 hn rfl
          refine dc_arrive h5 (by omega) hr (by omega) (fun y hy => ?_)
          intro y1 ey1
          have hy1 : y1.toInt = ((D' + 1 : Nat) : Int) := by rw [ey1]; exact dc_inc hx1' (by omega)
          rw [dc_cl hy1]
          refine ⟨dc_in hy1 (by omega), fun b8 e8 => fun y2 ey2 => ?_⟩
          subst e8
          refine ih y1 y2 y _ _ _ _ _ (r + 1) (D' + 2) (st + 1) (dc_nu at' r (H e)) (dc_nu p r (sk D')) (dc_nu c (at' (sk D')) (e + 1)) (dc_nu sk (D' + 1) r) (by omega) ?_ ?_ hy ?_
          · rw [hy1]; omega
          · rw [ey2]
            exact dc_inc hx2 (by omega)
          · rw [dc_ti_upd, dc_ti_upd, dc_ti_upd, dc_ti_upd, dc_ti_upd, h5, h3, hr]
            exact P
theorem dc_nv2 {post : St2 → Prop} {gn ge gr gc gq gf : Int32} {a1 a2 a3 a4 a5 a6 a8 a10 a11 a12 a13 a14 a15 a16 a17 a18 a19 a20 a21 a22 a23 a24 : Nat → Int32} {n m : Nat} {T H : Nat → Nat} (g : dc_G n m T H gn ge a1 a2)
    (hch : dc_Ch n m T (dc_ti a3) (dc_ti a4) 0)
    (K : ∀ gr a7 a8 a9 a10 a11 r at' p, gr.toInt = ((r : Nat) : Int) → dc_Dn n m T H r at' p (dc_ti a9) (dc_ti a10) (dc_ti a11) → post (gn, ge, gr, gc, gq, gf, a1, a2, a3, a4, a5, a6, a7, a8, a9, a10, a11, a12, a13, a14, a15, a16, a17, a18, a19, a20, a21, a22, a23, a24)) :
    ∀ (k i : Nat) (x1 : Int32) (a7 a9 : Nat → Int32), i + k = n → x1.toInt = (i : Int) → (∀ v, v < i → (a9 v).toInt = -1 ∧ a7 v = a3 v) →
      wX_numberVertices_2 post gn ge gr gc gq gf (k + 1) x1 a1 a2 a3 a4 a5 a6 a7 a8 a9 a10 a11 a12 a13 a14 a15 a16 a17 a18 a19 a20 a21 a22 a23 a24 := by
  have g' := g
  obtain ⟨n2, n24, m60, en, em, ed⟩ := g'
  intro k
  induction k with
  | zero =>
    intro i x1 a7 a9 hk hx h
    refine br_t (dc_le.mpr (by omega)) ?_
    refine dc_arrive (v := 0) (r := 0) dc_i0' (by omega) dc_i0' (by omega) (fun y hy => ?_)
    intro b8 e8
    refine ⟨120, ?_⟩
    subst e8
    refine dc_nv57 g (fun e he => hch.2 e (Nat.zero_le e) he) K 120 0 0 y _ _ _ _ _ 1 1 0 _ _ _ _ (by omega) ?_ dc_i0' hy (dc_df_0 (by omega) (fun v hv => ?_) ?_ ?_ (fun v hv hz => ?_) ?_)
    · rw [dc_i0]; rfl
    · have e := (h v (by omega)).2
      have := hch.1 v hv
      unfold dc_ti at this ⊢
      rw [e]
      exact this
    · show (upd a8 0 0 0).toInt = 0
      rw [pk_us]; exact dc_i0
    · show (upd a9 0 0 0).toInt = 0
      rw [pk_us]; exact dc_i0
    · show (upd a9 0 0 v).toInt = -1
      rw [pk_un hz]; exact (h v (by omega)).1
    · show (upd a10 0 0 0).toInt = 0
      rw [pk_us]; exact dc_i0
  | succ k ih =>
    intro i x1 a7 a9 hk hx h
    refine br_f (fun z => by rw [dc_le] at z; omega) ?_
    rw [dc_cl hx]
    have v1 : vp_in x1 24 := dc_in hx (by omega)
    refine ⟨v1, fun b9 e9 => ⟨v1, v1, fun b7 e7 => fun y ey => ?_⟩⟩
    subst e9 e7 ey
    refine ih (i + 1) _ _ _ (by omega) (dc_inc hx (by omega)) (fun v hv => ?_)
    by_cases z : v = i
    · rw [z, pk_us, pk_us]
      exact ⟨dc_im1, rfl⟩
    · rw [pk_un z, pk_un z]
      exact h v (by omega)
theorem dc_numberVertices {post : St2 → Prop} {gn ge gr gc gq gf : Int32} {a1 a2 a3 a4 a5 a6 a7 a8 a9 a10 a11 a12 a13 a14 a15 a16 a17 a18 a19 a20 a21 a22 a23 a24 : Nat → Int32} {n m : Nat} {T H : Nat → Nat} (g : dc_G n m T H gn ge a1 a2)
    (hch : dc_Ch n m T (dc_ti a3) (dc_ti a4) 0)
    (K : ∀ gr a7 a8 a9 a10 a11 r at' p, gr.toInt = ((r : Nat) : Int) → dc_Dn n m T H r at' p (dc_ti a9) (dc_ti a10) (dc_ti a11) → post (gn, ge, gr, gc, gq, gf, a1, a2, a3, a4, a5, a6, a7, a8, a9, a10, a11, a12, a13, a14, a15, a16, a17, a18, a19, a20, a21, a22, a23, a24)) :
    wpX_numberVertices post (gn, ge, gr, gc, gq, gf, a1, a2, a3, a4, a5, a6, a7, a8, a9, a10, a11, a12, a13, a14, a15, a16, a17, a18, a19, a20, a21, a22, a23, a24) :=
  Exists.intro (n + 1) (dc_nv2 g hch K n 0 0 a7 a9 (by omega) dc_i0 (fun v hv => absurd hv (by omega)))
/-- the edges in numbers -/
def dc_En (m : Nat) (T H : Nat → Nat) (r : Nat) (at' : Nat → Nat) (i j : Nat) : Prop := i < r ∧ j < r ∧ dc_Ed m T H (at' i) (at' j)
theorem dc_dn_tr {n m r : Nat} {T H at' p : Nat → Nat} {nu an pa : Nat → Int} (h : dc_Dn n m T H r at' p nu an pa) : dc_Tr r (dc_En m T H r at') p := by
  obtain ⟨h1, h2, h3, h4, h5, h6, h7⟩ := h
  refine ⟨fun i j e => ⟨e.1, e.2.1⟩, fun j h0 hj => ?_, h5, fun i j hij e => h6 i j hij e.2.1 e.2.2⟩
  have q := h4 j h0 hj
  exact ⟨q.1, by omega, hj, q.2.2⟩
theorem dc_dn_inj {n m r : Nat} {T H at' p : Nat → Nat} {nu an pa : Nat → Int} (h : dc_Dn n m T H r at' p nu an pa) {i j : Nat} (hi : i < r) (hj : j < r) (e : at' i = at' j) : i = j := by
  have q1 := (h.2.1 i hi).2.1
  have q2 := (h.2.1 j hj).2.1
  rw [e] at q1
  omega
end
section
/-- numbers and vertices -/
def dc_At (n r : Nat) (at' : Nat → Nat) : Prop := r ≤ n ∧ n ≤ 24 ∧ (∀ i, i < r → at' i < n) ∧ ∀ i j, i < r → j < r → at' i = at' j → i = j
/-- the forest at a linked place i: its link an i, its label lb i -/
def dc_L (p sd : Nat → Nat) (lk : Nat) (lb an : Nat → Nat) (i : Nat) : Prop :=
  an i < i ∧ dc_An p (an i) i ∧ dc_An p (lb i) i ∧ an i < lb i ∧ ∀ x, dc_An p x i → an i < x → lk ≤ x ∧ sd (lb i) ≤ sd x
/-- the forest: all from lk on are linked -/
def dc_Fo (r : Nat) (at' p sd : Nat → Nat) (lk : Nat) (lb an : Nat → Nat) (sm la ac : Nat → Int) : Prop :=
  (∀ i, i < r → sm (at' i) = (sd i : Int) ∧ la (at' i) = (at' (lb i) : Int) ∧ (i < lk → ac (at' i) = -1) ∧ (lk ≤ i → ac (at' i) = (at' (an i) : Int))) ∧
  (∀ i, lk ≤ i → i < r → dc_L p sd lk lb an i) ∧ (∀ i, i < lk → lb i = i)
/-- u answers for i -/
def dc_Ev (p sd : Nat → Nat) (lk i u : Nat) : Prop :=
  (i < lk ∧ u = i) ∨ (lk ≤ i ∧ dc_An p u i ∧ lk ≤ u ∧ ∀ x, dc_An p x i → lk ≤ x → sd u ≤ sd x)
theorem dc_fo_ev {r lk i : Nat} {at' p sd lb an : Nat → Nat} {sm la ac : Nat → Int} (F : dc_Fo r at' p sd lk lb an sm la ac) (hi : i < r) (hl : lk ≤ i) (ha : an i < lk) :
    lb i < r ∧ dc_Ev p sd lk i (lb i) := by
  obtain ⟨l1, l2, l3, l4, l5⟩ := F.2.1 i hl hi
  have := l3.1
  refine ⟨by omega, Or.inr ⟨hl, l3, (l5 _ l3 l4).1, fun x hx hk => (l5 x hx (by omega)).2⟩⟩
theorem dc_fo_comp {n r lk x a l : Nat} {at' p sd lb an : Nat → Nat} {sm la la' ac : Nat → Int} {z : Int} (A : dc_At n r at') (F : dc_Fo r at' p sd lk lb an sm la ac)
    (hx : x < r) (hl : lk ≤ x) (ha : an x = a) (hla : lk ≤ a) (hc : (l = lb x ∧ sd (lb x) ≤ sd (lb a)) ∨ (l = lb a ∧ sd (lb a) ≤ sd (lb x)))
    (h1 : la' (at' x) = (at' l : Int)) (h2 : ∀ i, i < r → i ≠ x → la' (at' i) = la (at' i)) (hz : z = (at' (an a) : Int)) :
    dc_Fo r at' p sd lk (dc_nu lb x l) (dc_nu an x (an a)) sm la' (dc_iu ac (at' x) z) := by
  obtain ⟨F1, F2, F3⟩ := F
  obtain ⟨l1, l2, l3, l4, l5⟩ := F2 x hl hx
  rw [ha] at l1 l2 l4 l5
  obtain ⟨k1, k2, k3, k4, k5⟩ := F2 a hla (by omega)
  refine ⟨fun i hi => ?_, fun i h3 h4 => ?_, fun i hi => ?_⟩
  · obtain ⟨f1, f2, f3, f4⟩ := F1 i hi
    by_cases e : i = x
    · subst e
      rw [dc_nu_s, dc_nu_s, dc_iu_s]
      exact ⟨f1, h1, fun q => absurd q (by omega), fun _ => hz⟩
    · rw [dc_nu_n e, dc_nu_n e, dc_iu_n (fun q => e (A.2.2.2 i x hi hx q)), h2 i hi e]
      exact ⟨f1, f2, f3, f4⟩
  · unfold dc_L
    by_cases e : i = x
    · subst e
      rw [dc_nu_s, dc_nu_s]
      refine ⟨by omega, dc_an_trans k2 l2, ?_, ?_, fun y hy hay => ?_⟩
      · rcases hc with ⟨e, _⟩ | ⟨e, _⟩
        · rw [e]; exact l3
        · rw [e]; exact dc_an_trans k3 l2
      · rcases hc with ⟨e, _⟩ | ⟨e, _⟩
        · rw [e]; omega
        · rw [e]; omega
      · rcases Nat.lt_or_ge a y with g | g
        · obtain ⟨q1, q2⟩ := l5 y hy g
          refine ⟨q1, ?_⟩
          rcases hc with ⟨e, c⟩ | ⟨e, c⟩
          · rw [e]; exact q2
          · rw [e]; omega
        · obtain ⟨q1, q2⟩ := k5 y (dc_an_mid hy g (by omega)) hay
          refine ⟨q1, ?_⟩
          rcases hc with ⟨e, c⟩ | ⟨e, c⟩
          · rw [e]; omega
          · rw [e]; exact q2
    · rw [dc_nu_n e, dc_nu_n e]
      exact F2 i h3 h4
  · rw [dc_nu_n (by omega)]
    exact F3 i hi
/-- k links up from i -/
def dc_it (an : Nat → Nat) (i : Nat) : Nat → Nat
  | 0 => i
  | k + 1 => an (dc_it an i k)
theorem dc_low71 {post : Int32 → St2 → Prop} {gn ge gr gc gq gf : Int32} {a1 a2 a3 a4 a5 a6 a7 a8 a9 a10 a11 a12 a15 a16 a17 a18 a19 a20 a21 a22 a23 a24 : Nat → Int32} {n r lk i0 : Nat} {at' p sd s : Nat → Nat} {x1 : Int32} (A : dc_At n r at') (h0 : s 0 = i0) (hx1 : x1.toInt = (at' i0 : Int)) (hi0 : i0 < r) (hl0 : lk ≤ i0)
    (K : ∀ a13 a14 lb an, ∀ (res : Int32) (u : Nat), dc_Fo r at' p sd lk lb an (dc_ti a12) (dc_ti a13) (dc_ti a14) → res.toInt = (at' u : Int) → u < r → dc_Ev p sd lk i0 u → post res (gn, ge, gr, gc, gq, gf, a1, a2, a3, a4, a5, a6, a7, a8, a9, a10, a11, a12, a13, a14, a15, a16, a17, a18, a19, a20, a21, a22, a23, a24)) :
    ∀ (k : Nat) (x4 : Int32) (a13 a14 : Nat → Int32) (lb an : Nat → Nat), k ≤ 24 → x4.toInt = (k : Int) - 1 → dc_Fo r at' p sd lk lb an (dc_ti a12) (dc_ti a13) (dc_ti a14) →
      (∀ j, j < k → an (s j) = s (j + 1) ∧ (a8 j).toInt = (at' (s j) : Int)) → (∀ j, j ≤ k → lk ≤ s j ∧ s j < r) → (∀ i j, i < j → j ≤ k → s j < s i) → an (s k) < lk →
      wX_lowest_71 post x1 gn ge gr gc gq gf (k + 1) x4 a1 a2 a3 a4 a5 a6 a7 a8 a9 a10 a11 a12 a13 a14 a15 a16 a17 a18 a19 a20 a21 a22 a23 a24 := by
  intro k
  induction k with
  | zero =>
    intro x4 a13 a14 lb an hk hx4 F hs hb hd ha
    refine br_t (dc_lt'.mpr (by rw [hx4, dc_i0]; omega)) ?_
    rw [dc_cl hx1]
    rw [h0] at ha
    obtain ⟨q1, q2⟩ := dc_fo_ev F hi0 hl0 ha
    have b1 := A.2.2.1 i0 hi0
    have b2 := A.2.1
    exact ⟨dc_in hx1 (by omega), K a13 a14 lb an _ (lb i0) F (F.1 i0 hi0).2.1 q1 q2⟩
  | succ k ih =>
    intro x4 a13 a14 lb an hk hx4 F hs hb hd ha
    have b2 := A.2.1
    have hx4' : x4.toInt = (k : Int) := by omega
    refine br_f (fun z => by rw [dc_lt', hx4', dc_i0] at z; omega) ?_
    rw [dc_cl hx4']
    refine ⟨dc_in hx4' (by omega), fun x5 e5 => ?_⟩
    obtain ⟨s1, s2⟩ := hs k (by omega)
    obtain ⟨c1, c2⟩ := hb k (by omega)
    obtain ⟨d1, d2⟩ := hb (k + 1) (by omega)
    have ax := A.2.2.1 _ c2
    have aa := A.2.2.1 _ d2
    have h5 : x5.toInt = (at' (s k) : Int) := by rw [e5]; exact s2
    rw [dc_cl h5]
    have v5 : vp_in x5 24 := dc_in h5 (by omega)
    refine ⟨v5, fun x6 e6 => ?_⟩
    have h6 : x6.toInt = (at' (s (k + 1)) : Int) := by
      rw [e6, ← s1]
      exact (F.1 _ c2).2.2.2 c1
    rw [dc_cl h6]
    have v6 : vp_in x6 24 := dc_in h6 (by omega)
    obtain ⟨f1, f2, f3, f4⟩ := F.1 _ c2
    obtain ⟨g1, g2, g3, g4⟩ := F.1 _ d2
    obtain ⟨l1, l2, l3, l4, l5⟩ := F.2.1 _ c1 c2
    obtain ⟨m1, m2, m3, m4, m5⟩ := F.2.1 _ d1 d2
    have lr := l3.1
    have mr := m3.1
    have al := A.2.2.1 (lb (s k)) (by omega)
    have am := A.2.2.1 (lb (s (k + 1))) (by omega)
    have f2' : (a13 (at' (s k))).toInt = (at' (lb (s k)) : Int) := f2
    have g2' : (a13 (at' (s (k + 1)))).toInt = (at' (lb (s (k + 1))) : Int) := g2
    rw [dc_cl f2', dc_cl g2']
    refine ⟨v6, dc_in g2' (by omega), v5, dc_in f2' (by omega), ?_⟩
    have e1 : (a12 (at' (lb (s k)))).toInt = (sd (lb (s k)) : Int) := (F.1 _ (by omega)).1
    have e2 : (a12 (at' (lb (s (k + 1))))).toInt = (sd (lb (s (k + 1))) : Int) := (F.1 _ (by omega)).1
    have nx : ∀ j, j < k → s j ≠ s k := fun j hj => by have := hd j k hj (by omega); omega
    refine dc_brl (fun q => ?_) (fun q => ?_)
    · rw [e1, e2] at q
      unfold wX_lowest_135
      refine ⟨v6, v5, fun b14 e14 => fun y ey => ?_⟩
      rw [dc_cl h5, dc_cl h6] at e14
      subst e14
      refine ih y _ _ (dc_nu lb (s k) (lb (s k))) (dc_nu an (s k) (an (s (k + 1)))) (by omega) ?_ ?_ ?_ ?_ ?_ ?_
      · rw [ey]
        exact dc_add (by rw [hx4', dc_im1]; omega) (by omega) (by omega)
      · rw [dc_ti_upd]
        exact dc_fo_comp A F c2 c1 s1 d1 (Or.inl ⟨rfl, by omega⟩) f2 (fun i _ _ => rfl) (g4 d1)
      · intro j hj
        rw [dc_nu_n (nx j hj)]
        exact hs j (by omega)
      · exact fun j hj => hb j (by omega)
      · exact fun i j a b => hd i j a (by omega)
      · rw [dc_nu_s]; exact ha
    · rw [e1, e2] at q
      refine ⟨v6, v5, fun b13 e13 => ?_⟩
      unfold wX_lowest_135
      refine ⟨v6, v5, fun b14 e14 => fun y ey => ?_⟩
      rw [dc_cl h5, dc_cl h6] at e14
      subst e14 e13
      refine ih y _ _ (dc_nu lb (s k) (lb (s (k + 1)))) (dc_nu an (s k) (an (s (k + 1)))) (by omega) ?_ ?_ ?_ ?_ ?_ ?_
      · rw [ey]
        exact dc_add (by rw [hx4', dc_im1]; omega) (by omega) (by omega)
      · rw [dc_ti_upd, dc_ti_upd]
        refine dc_fo_comp A F c2 c1 s1 d1 (Or.inr ⟨rfl, by omega⟩) ?_ (fun i hi hne => ?_) (g4 d1)
        · rw [dc_iu_s]; exact g2'
        · rw [dc_iu_n (fun z => hne (A.2.2.2 i _ hi c2 z))]
      · intro j hj
        rw [dc_nu_n (nx j hj)]
        exact hs j (by omega)
      · exact fun j hj => hb j (by omega)
      · exact fun i j a b => hd i j a (by omega)
      · rw [dc_nu_s]; exact ha
theorem dc_low19 {post : Int32 → St2 → Prop} {gn ge gr gc gq gf : Int32} {a1 a2 a3 a4 a5 a6 a7 a9 a10 a11 a12 a13 a14 a15 a16 a17 a18 a19 a20 a21 a22 a23 a24 : Nat → Int32} {n r lk i0 : Nat} {at' p sd lb an : Nat → Nat} {x1 : Int32} (hn : gn.toInt = (n : Int)) (A : dc_At n r at') (hx1 : x1.toInt = (at' i0 : Int)) (hi0 : i0 < r) (hl0 : lk ≤ i0) (h0 : 0 < lk)
    (F : dc_Fo r at' p sd lk lb an (dc_ti a12) (dc_ti a13) (dc_ti a14))
    (K : ∀ a8 a13 a14 lb an, ∀ (res : Int32) (u : Nat), dc_Fo r at' p sd lk lb an (dc_ti a12) (dc_ti a13) (dc_ti a14) → res.toInt = (at' u : Int) → u < r → dc_Ev p sd lk i0 u → post res (gn, ge, gr, gc, gq, gf, a1, a2, a3, a4, a5, a6, a7, a8, a9, a10, a11, a12, a13, a14, a15, a16, a17, a18, a19, a20, a21, a22, a23, a24)) :
    ∀ (f k : Nat) (x2 x3 x4 : Int32) (a8 : Nat → Int32), dc_it an i0 k < f → x2.toInt = (k : Int) → x3.toInt = (at' (dc_it an i0 k) : Int) → x4.toInt = (k : Int) →
      (∀ j, j < k → (a8 j).toInt = (at' (dc_it an i0 j) : Int)) → (∀ j, j ≤ k → lk ≤ dc_it an i0 j ∧ dc_it an i0 j + j ≤ i0) → (∀ i j, i < j → j ≤ k → dc_it an i0 j < dc_it an i0 i) →
      wX_lowest_19 post x1 gn ge gr gc gq gf f x2 x3 x4 a1 a2 a3 a4 a5 a6 a7 a8 a9 a10 a11 a12 a13 a14 a15 a16 a17 a18 a19 a20 a21 a22 a23 a24 := by
  intro f
  induction f with
  | zero => intro k x2 x3 x4 a8 hf; exact absurd hf (by omega)
  | succ f ih =>
    intro k x2 x3 x4 a8 hf hx2 hx3 hx4 hs hb hd
    obtain ⟨A1, A2, A3, A4⟩ := id A
    obtain ⟨b1, b2⟩ := hb k (Nat.le_refl k)
    have br : dc_it an i0 k < r := by omega
    refine br_f (fun z => by rw [dc_le, hn, hx4] at z; omega) ?_
    have ax := A3 _ br
    rw [dc_cl hx3]
    obtain ⟨l1, l2, l3, l4, l5⟩ := F.2.1 _ b1 br
    have fa : (a14 (at' (dc_it an i0 k))).toInt = (at' (an (dc_it an i0 k)) : Int) := (F.1 _ br).2.2.2 b1
    have aa := A3 (an (dc_it an i0 k)) (by omega)
    rw [dc_cl fa]
    refine ⟨dc_in hx3 (by omega), dc_in fa (by omega), ?_⟩
    rcases Nat.lt_or_ge (an (dc_it an i0 k)) lk with hc | hc
    · have fb : (a14 (at' (an (dc_it an i0 k)))).toInt = -1 := (F.1 _ (by omega)).2.2.1 hc
      refine br_t (dc_eq.mpr (by rw [fb, dc_im1])) (fun y ey => ⟨k + 1, ?_⟩)
      refine dc_low71 (s := dc_it an i0) A rfl hx1 hi0 hl0 (fun a13 a14 lb an res u => K a8 a13 a14 lb an res u) k y a13 a14 lb an (by omega) ?_ F (fun j hj => ⟨rfl, hs j hj⟩) (fun j hj => ?_) hd hc
      · rw [ey]
        exact dc_sub (by rw [hx2, dc_i1]) (by omega) (by omega)
      · have := hb j hj
        exact ⟨this.1, by omega⟩
    · have fb : (a14 (at' (an (dc_it an i0 k)))).toInt = (at' (an (an (dc_it an i0 k))) : Int) := (F.1 _ (by omega)).2.2.2 hc
      refine br_f (fun z => by rw [dc_eq, fb, dc_im1] at z; omega) ?_
      refine ⟨dc_in hx2 (by omega), fun b8 e8 => fun y2 ey2 => ⟨dc_in hx3 (by omega), fun y3 ey3 => fun y4 ey4 => ?_⟩⟩
      rw [dc_cl hx2] at e8
      subst e8
      refine ih (k + 1) y2 y3 y4 _ ?_ ?_ ?_ ?_ ?_ ?_ ?_
      · show an (dc_it an i0 k) < f
        omega
      · rw [ey2]; exact dc_inc hx2 (by omega)
      · rw [ey3]; exact fa
      · rw [ey4]; exact dc_inc hx4 (by omega)
      · intro j hj
        by_cases z : j = k
        · rw [z, pk_us]; exact hx3
        · rw [pk_un z]; exact hs j (by omega)
      · intro j hj
        by_cases z : j = k + 1
        · rw [z]
          show lk ≤ an (dc_it an i0 k) ∧ an (dc_it an i0 k) + (k + 1) ≤ i0
          omega
        · exact hb j (by omega)
      · intro i j hij hj
        by_cases z : j = k + 1
        · rw [z]
          show an (dc_it an i0 k) < dc_it an i0 i
          by_cases w : i = k
          · rw [w]; exact l1
          · have := hd i k (by omega) (by omega)
            omega
        · exact hd i j hij (by omega)
theorem dc_lowest {post : Int32 → St2 → Prop} {gn ge gr gc gq gf : Int32} {a1 a2 a3 a4 a5 a6 a7 a8 a9 a10 a11 a12 a13 a14 a15 a16 a17 a18 a19 a20 a21 a22 a23 a24 : Nat → Int32} {n r lk i : Nat} {at' p sd lb an : Nat → Nat} {p0 : Int32} (hn : gn.toInt = (n : Int)) (A : dc_At n r at') (h0 : 0 < lk)
    (F : dc_Fo r at' p sd lk lb an (dc_ti a12) (dc_ti a13) (dc_ti a14)) (hi : i < r) (hp : p0.toInt = (at' i : Int))
    (K : ∀ a8 a13 a14 lb an, ∀ (res : Int32) (u : Nat), dc_Fo r at' p sd lk lb an (dc_ti a12) (dc_ti a13) (dc_ti a14) → res.toInt = (at' u : Int) → u < r → dc_Ev p sd lk i u → post res (gn, ge, gr, gc, gq, gf, a1, a2, a3, a4, a5, a6, a7, a8, a9, a10, a11, a12, a13, a14, a15, a16, a17, a18, a19, a20, a21, a22, a23, a24)) :
    wpX_lowest post (gn, ge, gr, gc, gq, gf, a1, a2, a3, a4, a5, a6, a7, a8, a9, a10, a11, a12, a13, a14, a15, a16, a17, a18, a19, a20, a21, a22, a23, a24) p0 := by
  obtain ⟨A1, A2, A3, A4⟩ := id A
  have ai := A3 i hi
  unfold wpX_lowest
  refine And.intro (dc_in hp (by omega)) ?_
  rw [dc_cl hp]
  rcases Nat.lt_or_ge i lk with hc | hc
  · have fb : (a14 (at' i)).toInt = -1 := (F.1 _ hi).2.2.1 hc
    exact br_t (dc_eq.mpr (by rw [fb, dc_im1])) (K a8 a13 a14 lb an p0 i F hp hi (Or.inl ⟨hc, rfl⟩))
  · have fb : (a14 (at' i)).toInt = (at' (an i) : Int) := (F.1 _ hi).2.2.2 hc
    refine br_f (fun z => by rw [dc_eq, fb, dc_im1] at z; omega) ⟨i + 1, ?_⟩
    refine dc_low19 hn A hp hi hc h0 F K (i + 1) 0 0 p0 0 a8 ?_ dc_i0' hp dc_i0' (fun j hj => absurd hj (by omega)) (fun j hj => ?_) (fun i j a b => absurd a (by omega))
    · show i < i + 1
      omega
    · have : j = 0 := by omega
      rw [this]
      exact ⟨hc, Nat.le_refl _⟩
end
section
/-- the semi-dominator of w under way: the edges below lo are looked at -/
def dc_Cu (m : Nat) (T H : Nat → Nat) (r : Nat) (at' p sd : Nat → Nat) (w lo : Nat) : Prop :=
  sd w ≤ w ∧ (sd w = w ∨ dc_En m T H r at' (sd w) w ∨ ∃ u v, w < u ∧ dc_An p u v ∧ dc_En m T H r at' v w ∧ sd u = sd w) ∧
  ∀ e, e < lo → e < m → H e = at' w → ∀ i, i < r → T e = at' i → (i < w → sd w ≤ i) ∧ ∀ u, dc_An p u i → w < u → sd w ≤ sd u
theorem dc_cu_end {n m r w lo : Nat} {T H at' p sd : Nat → Nat} {nu an pa : Nat → Int} (dn : dc_Dn n m T H r at' p nu an pa) (hw0 : 0 < w) (hw : w < r)
    (C : dc_Cu m T H r at' p sd w lo) (hlo : ∀ e, lo ≤ e → e < m → H e ≠ at' w) : dc_Sd (dc_En m T H r at') p sd w := by
  obtain ⟨c1, c2, c3⟩ := C
  have all : ∀ e, e < m → H e = at' w → e < lo := fun e he hh => by
    rcases Nat.lt_or_ge e lo with g | g
    · exact g
    · exact absurd hh (hlo e g he)
  obtain ⟨q1, q2, e, e1, e2, e3⟩ := dn.2.2.2.1 w hw0 hw
  have k := (c3 e (all e e1 e3) e1 e3 (p w) (by omega) e2).1 q1
  refine ⟨by omega, ?_, ?_, ?_⟩
  · rcases c2 with g | g | g
    · omega
    · exact Or.inl g
    · exact Or.inr g
  · intro v hv hvw
    obtain ⟨v1, v2, e, e1, e2, e3⟩ := hv
    exact (c3 e (all e e1 e3) e1 e3 v v1 e2).1 hvw
  · intro u v hv ha hu
    obtain ⟨v1, v2, e, e1, e2, e3⟩ := hv
    exact (c3 e (all e e1 e3) e1 e3 v v1 e2).2 u ha hu
theorem dc_cu_skip {m r w lo e : Nat} {T H at' p sd : Nat → Nat} (C : dc_Cu m T H r at' p sd w lo) (h1 : ∀ j, lo ≤ j → j < e → H j ≠ at' w) (h2 : ∀ i, i < r → T e ≠ at' i) :
    dc_Cu m T H r at' p sd w (e + 1) := by
  obtain ⟨c1, c2, c3⟩ := C
  refine ⟨c1, c2, fun j hj hm hh i hi ht => ?_⟩
  by_cases z : j = e
  · rw [z] at ht
    exact absurd ht (h2 i hi)
  · rcases Nat.lt_or_ge j lo with g | g
    · exact c3 j g hm hh i hi ht
    · exact absurd hh (h1 j g (by omega))
theorem dc_cu_keep {n m r w lo e i u : Nat} {T H at' p sd : Nat → Nat} (A : dc_At n r at') (C : dc_Cu m T H r at' p sd w lo) (h1 : ∀ j, lo ≤ j → j < e → H j ≠ at' w)
    (hi : i < r) (ht : T e = at' i) (hE : dc_Ev p sd (w + 1) i u) (hs : ∀ i, i < w → sd i = i) (hc : sd w ≤ sd u) : dc_Cu m T H r at' p sd w (e + 1) := by
  obtain ⟨c1, c2, c3⟩ := C
  refine ⟨c1, c2, fun j hj hm hh i' hi' ht' => ?_⟩
  by_cases z : j = e
  · rw [z, ht] at ht'
    have ei := A.2.2.2 i i' hi hi' ht'
    subst ei
    rcases hE with ⟨g1, g2⟩ | ⟨g1, g2, g3, g4⟩
    · subst g2
      refine ⟨fun hiw => ?_, fun u' hu' hw' => ?_⟩
      · rw [hs u hiw] at hc
        exact hc
      · have := hu'.1
        omega
    · refine ⟨fun hiw => by omega, fun u' hu' hw' => ?_⟩
      have := g4 u' hu' (by omega)
      omega
  · rcases Nat.lt_or_ge j lo with g | g
    · exact c3 j g hm hh i' hi' ht'
    · exact absurd hh (h1 j g (by omega))
theorem dc_cu_lower {n m r w lo e i u : Nat} {T H at' p sd : Nat → Nat} (A : dc_At n r at') (C : dc_Cu m T H r at' p sd w lo) (hw : w < r) (he : e < m) (hh0 : H e = at' w) (h1 : ∀ j, lo ≤ j → j < e → H j ≠ at' w)
    (hi : i < r) (ht : T e = at' i) (hE : dc_Ev p sd (w + 1) i u) (hs : ∀ i, i < w → sd i = i) (hc : sd u < sd w) : dc_Cu m T H r at' p (dc_nu sd w (sd u)) w (e + 1) := by
  obtain ⟨c1, c2, c3⟩ := C
  have uw : u ≠ w := fun z => by rw [z] at hc; omega
  have eiw : dc_En m T H r at' i w := ⟨hi, hw, e, he, ht, hh0⟩
  unfold dc_Cu
  rw [dc_nu_s]
  refine ⟨by omega, Or.inr ?_, fun j hj hm hh i' hi' ht' => ?_⟩
  · rcases hE with ⟨g1, g2⟩ | ⟨g1, g2, g3, g4⟩
    · refine Or.inl ?_
      rw [g2, hs i (by omega)]
      exact eiw
    · exact Or.inr ⟨u, i, by omega, g2, eiw, dc_nu_n uw⟩
  · have key : ∀ u', w < u' → dc_nu sd w (sd u) u' = sd u' := fun u' h => dc_nu_n (by omega)
    by_cases z : j = e
    · rw [z, ht] at ht'
      have ei := A.2.2.2 i i' hi hi' ht'
      subst ei
      rcases hE with ⟨g1, g2⟩ | ⟨g1, g2, g3, g4⟩
      · subst g2
        refine ⟨fun hiw => ?_, fun u' hu' hw' => ?_⟩
        · rw [hs u hiw]; exact Nat.le_refl _
        · have := hu'.1
          omega
      · refine ⟨fun hiw => by omega, fun u' hu' hw' => ?_⟩
        rw [key u' hw']
        exact g4 u' hu' (by omega)
    · rcases Nat.lt_or_ge j lo with g | g
      · obtain ⟨q1, q2⟩ := c3 j g hm hh i' hi' ht'
        refine ⟨fun h => by have := q1 h; omega, fun u' hu' hw' => ?_⟩
        rw [key u' hw']
        have := q2 u' hu' hw'
        omega
      · exact absurd hh (h1 j g (by omega))
theorem dc_fo_sd {n r w z : Nat} {at' p sd lb an : Nat → Nat} {sm la ac : Nat → Int} {y : Int} (A : dc_At n r at') (hw : w < r) (F : dc_Fo r at' p sd (w + 1) lb an sm la ac) (hy : y = (z : Int)) :
    dc_Fo r at' p (dc_nu sd w z) (w + 1) lb an (dc_iu sm (at' w) y) la ac := by
  obtain ⟨F1, F2, F3⟩ := F
  refine ⟨fun i hi => ?_, fun i h1 h2 => ?_, F3⟩
  · obtain ⟨f1, f2, f3, f4⟩ := F1 i hi
    by_cases e : i = w
    · subst e
      rw [dc_iu_s, dc_nu_s]
      exact ⟨hy, f2, f3, f4⟩
    · rw [dc_iu_n (fun q => e (A.2.2.2 i w hi hw q)), dc_nu_n e]
      exact ⟨f1, f2, f3, f4⟩
  · obtain ⟨l1, l2, l3, l4, l5⟩ := F2 i h1 h2
    refine ⟨l1, l2, l3, l4, fun x hx hax => ?_⟩
    obtain ⟨q1, q2⟩ := l5 x hx hax
    obtain ⟨q3, q4⟩ := l5 _ l3 l4
    rw [dc_nu_n (show lb i ≠ w by omega), dc_nu_n (show x ≠ w by omega)]
    exact ⟨q1, q2⟩
theorem dc_lbs9 {post : St2 → Prop} {gn ge gr gc gq gf : Int32} {a1 a2 a3 a4 a5 a6 a7 a9 a10 a11 a15 a16 a17 a18 a19 a20 a21 a22 a23 a24 : Nat → Int32} {n m r w : Nat} {T H at' p sd0 : Nat → Nat} {x1 : Int32} (g : dc_G n m T H gn ge a1 a2)
    (dn : dc_Dn n m T H r at' p (dc_ti a9) (dc_ti a10) (dc_ti a11)) (A : dc_At n r at') (hin : ∀ e, e < m → dc_Nx H (H e) (e + 1) m (dc_ti a6 e)) (hw0 : 0 < w) (hw : w < r)
    (hx1 : x1.toInt = (at' w : Int)) (hsm : ∀ i, i < w → sd0 i = i)
    (K : ∀ a8 a12 a13 a14 sd lb an, (∀ i, i < r → i ≠ w → sd i = sd0 i) → dc_Fo r at' p sd (w + 1) lb an (dc_ti a12) (dc_ti a13) (dc_ti a14) → dc_Sd (dc_En m T H r at') p sd w → post (gn, ge, gr, gc, gq, gf, a1, a2, a3, a4, a5, a6, a7, a8, a9, a10, a11, a12, a13, a14, a15, a16, a17, a18, a19, a20, a21, a22, a23, a24)) :
    ∀ (f k lo : Nat) (x2 x3 : Int32) (a8 a12 a13 a14 : Nat → Int32) (sd lb an : Nat → Nat), m < lo + f → k ≤ lo → lo ≤ m → dc_Nx H (at' w) lo m x2.toInt → x3.toInt = (k : Int) →
      (∀ i, i < r → i ≠ w → sd i = sd0 i) → dc_Fo r at' p sd (w + 1) lb an (dc_ti a12) (dc_ti a13) (dc_ti a14) → dc_Cu m T H r at' p sd w lo →
      wX_lowerBySources_9 post x1 f x2 x3 gn ge gr gc gq gf a1 a2 a3 a4 a5 a6 a7 a8 a9 a10 a11 a12 a13 a14 a15 a16 a17 a18 a19 a20 a21 a22 a23 a24 := by
  obtain ⟨n2, n24, m60, en, em, ed⟩ := id g
  obtain ⟨A1, A2, A3, A4⟩ := id A
  have aw := A3 w hw
  intro f
  induction f with
  | zero => intro k lo x2 x3 a8 a12 a13 a14 sd lb an hf _ hl; exact absurd hf (by omega)
  | succ f ih =>
    intro k lo x2 x3 a8 a12 a13 a14 sd lb an hf hk hl hx2 hx3 hsd F C
    refine dc_brl (fun q => ?_) (fun q => ?_)
    · rw [dc_i60, hx3] at q
      exact K a8 a12 a13 a14 sd lb an hsd F (dc_cu_end dn hw0 hw C (fun e h1 h2 => by omega))
    · refine dc_bre (fun q2 => ?_) (fun q2 => ?_)
      · rw [dc_im1] at q2
        exact K a8 a12 a13 a14 sd lb an hsd F (dc_cu_end dn hw0 hw C (dc_nx_none hx2 q2))
      · rw [dc_im1] at q2
        obtain ⟨e, e1, e2, e3, e4, e5⟩ := dc_nx_some hx2 q2
        obtain ⟨t1, t2, t3, t4⟩ := ed e e3
        have v2 : vp_in x2 60 := dc_in e1 (by omega)
        have hy3 : (x3 + 1).toInt = ((k + 1 : Nat) : Int) := dc_inc hx3 (by omega)
        have hnx : dc_Nx H (at' w) (e + 1) m (dc_ti a6 e) := by
          have := hin e e3
          rw [e4] at this
          exact this
        rw [dc_cl e1]
        refine ⟨v2, fun x4 e4' => ?_⟩
        have h4 : x4.toInt = (T e : Int) := by rw [e4']; exact t1
        rw [dc_cl h4]
        refine ⟨dc_in h4 (by omega), ?_⟩
        refine dc_brt (fun z => ?_) (fun z => ?_)
        · refine ⟨v2, fun y2 ey2 => fun y3 ey3 => ?_⟩
          subst ey2 ey3
          refine ih (k + 1) (e + 1) _ _ a8 a12 a13 a14 sd lb an (by omega) (by omega) (by omega) hnx hy3 hsd F (dc_cu_skip C e5 (fun i hi ht => ?_))
          rw [ht, dc_i0] at z
          have := (dn.2.1 i hi).2.1
          unfold dc_ti at this
          omega
        · rw [dc_i0] at z
          obtain ⟨i, hi, ht⟩ : ∃ i, i < r ∧ T e = at' i := by
            rcases dn.2.2.1 (T e) t2 with g | g
            · unfold dc_ti at g
              omega
            · exact g
          refine dc_lowest en A (by omega) F hi (by rw [h4, ht]) (fun a8 a13 a14 lb an res u F' hres hu hev => ?_)
          have au := A3 u hu
          refine And.intro (dc_in hres (by omega)) (And.intro (dc_in hx1 (by omega)) ?_)
          rw [dc_cl hres, dc_cl hx1]
          have s1 : (a12 (at' w)).toInt = (sd w : Int) := (F'.1 w hw).1
          have s2 : (a12 (at' u)).toInt = (sd u : Int) := (F'.1 u hu).1
          have hs' : ∀ i, i < w → sd i = i := fun i hi => by rw [hsd i (by omega) (by omega)]; exact hsm i hi
          refine dc_brl (fun c => ?_) (fun c => ?_)
          · rw [s1, s2] at c
            refine ⟨v2, fun y2 ey2 => fun y3 ey3 => ?_⟩
            subst ey2 ey3
            exact ih (k + 1) (e + 1) _ _ a8 a12 a13 a14 sd lb an (by omega) (by omega) (by omega) hnx hy3 hsd F' (dc_cu_keep A C e5 hi ht hev hs' (by omega))
          · rw [s1, s2] at c
            refine ⟨dc_in hres (by omega), dc_in hx1 (by omega), fun b12 e12 => ⟨v2, fun y2 ey2 => fun y3 ey3 => ?_⟩⟩
            subst ey2 ey3 e12
            refine ih (k + 1) (e + 1) _ _ a8 _ a13 a14 (dc_nu sd w (sd u)) lb an (by omega) (by omega) (by omega) hnx hy3 (fun i hi hne => ?_) ?_ (dc_cu_lower A C hw e3 e4 e5 hi ht hev hs' (by omega))
            · rw [dc_nu_n hne]; exact hsd i hi hne
            · rw [dc_ti_upd]
              exact dc_fo_sd A hw F' s2
theorem dc_lowerBySources {post : St2 → Prop} {gn ge gr gc gq gf : Int32} {a1 a2 a3 a4 a5 a6 a7 a8 a9 a10 a11 a12 a13 a14 a15 a16 a17 a18 a19 a20 a21 a22 a23 a24 : Nat → Int32} {n m r w : Nat} {T H at' p sd lb an : Nat → Nat} {x1 : Int32} (g : dc_G n m T H gn ge a1 a2)
    (dn : dc_Dn n m T H r at' p (dc_ti a9) (dc_ti a10) (dc_ti a11)) (A : dc_At n r at') (hin : dc_Ch n m H (dc_ti a5) (dc_ti a6) 0) (hw0 : 0 < w) (hw : w < r)
    (hx1 : x1.toInt = (at' w : Int)) (hsm : ∀ i, i < w + 1 → sd i = i) (F : dc_Fo r at' p sd (w + 1) lb an (dc_ti a12) (dc_ti a13) (dc_ti a14))
    (K : ∀ a8 a12 a13 a14 sd' lb an, (∀ i, i < r → i ≠ w → sd' i = sd i) → dc_Fo r at' p sd' (w + 1) lb an (dc_ti a12) (dc_ti a13) (dc_ti a14) → dc_Sd (dc_En m T H r at') p sd' w → post (gn, ge, gr, gc, gq, gf, a1, a2, a3, a4, a5, a6, a7, a8, a9, a10, a11, a12, a13, a14, a15, a16, a17, a18, a19, a20, a21, a22, a23, a24)) :
    wpX_lowerBySources post (gn, ge, gr, gc, gq, gf, a1, a2, a3, a4, a5, a6, a7, a8, a9, a10, a11, a12, a13, a14, a15, a16, a17, a18, a19, a20, a21, a22, a23, a24) x1 := by
  obtain ⟨A1, A2, A3, A4⟩ := id A
  have aw := A3 w hw
  unfold wpX_lowerBySources
  refine And.intro (dc_in hx1 (by omega)) (fun x2 e2 => ⟨m + 1, ?_⟩)
  rw [dc_cl hx1] at e2
  refine dc_lbs9 (sd0 := sd) g dn A (fun e he => hin.2 e (Nat.zero_le e) he) hw0 hw hx1 (fun i hi => hsm i (by omega)) K (m + 1) 0 0 x2 0 a8 a12 a13 a14 sd lb an (by omega) (Nat.le_refl 0) (Nat.zero_le m) ?_ dc_i0' (fun i _ _ => rfl) F ?_
  · rw [e2]
    exact hin.1 (at' w) aw
  · have := hsm w (by omega)
    exact ⟨by omega, Or.inl this, fun e he => absurd he (by omega)⟩
end
section
/-- x is the vertex of the first v in [lo, hi) with sd v = s, or -1 -/
def dc_Nb (at' sd : Nat → Nat) (s lo hi : Nat) (x : Int) : Prop :=
  (x = -1 ∧ ∀ v, lo ≤ v → v < hi → sd v ≠ s) ∨ ∃ v : Nat, x = (at' v : Int) ∧ lo ≤ v ∧ v < hi ∧ sd v = s ∧ ∀ j, lo ≤ j → j < v → sd j ≠ s
theorem dc_nb_ext {at' sd sd' : Nat → Nat} {s lo hi : Nat} {x : Int} (e : ∀ v, lo ≤ v → v < hi → sd' v = sd v) (h : dc_Nb at' sd s lo hi x) : dc_Nb at' sd' s lo hi x := by
  rcases h with ⟨h1, h2⟩ | ⟨v, h1, h2, h3, h4, h5⟩
  · exact Or.inl ⟨h1, fun v a b => by rw [e v a b]; exact h2 v a b⟩
  · exact Or.inr ⟨v, h1, h2, h3, by rw [e v h2 h3]; exact h4, fun j a b => by rw [e j a (by omega)]; exact h5 j a b⟩
theorem dc_nb_ne {at' sd : Nat → Nat} {s w hi : Nat} {x : Int} (hw : sd w ≠ s) (h : dc_Nb at' sd s (w + 1) hi x) : dc_Nb at' sd s w hi x := by
  have hw' : ∀ v, v = w → sd v ≠ s := fun v e => by rw [e]; exact hw
  rcases h with ⟨h1, h2⟩ | ⟨v, h1, h2, h3, h4, h5⟩
  · refine Or.inl ⟨h1, fun v a b => ?_⟩
    by_cases z : v = w
    · exact hw' v z
    · exact h2 v (by omega) b
  · refine Or.inr ⟨v, h1, by omega, h3, h4, fun j a b => ?_⟩
    by_cases z : j = w
    · exact hw' j z
    · exact h5 j (by omega) b
theorem dc_nb_some {at' sd : Nat → Nat} {s lo hi : Nat} {x : Int} (h : dc_Nb at' sd s lo hi x) (hx : x ≠ -1) :
    ∃ v : Nat, x = (at' v : Int) ∧ lo ≤ v ∧ v < hi ∧ sd v = s ∧ ∀ j, lo ≤ j → j < v → sd j ≠ s := by
  rcases h with ⟨h1, _⟩ | h
  · exact absurd h1 hx
  · exact h
theorem dc_nb_none {at' sd : Nat → Nat} {s lo hi : Nat} {x : Int} (h : dc_Nb at' sd s lo hi x) (hx : x = -1) : ∀ v, lo ≤ v → v < hi → sd v ≠ s := by
  rcases h with ⟨_, h2⟩ | ⟨v, h1, _⟩
  · exact h2
  · omega
/-- v has its first immediate dominator -/
def dc_As (p sd at' : Nat → Nat) (lk v : Nat) (x : Int) : Prop :=
  ∃ u, dc_An p u v ∧ sd v < u ∧ (∀ x, dc_An p x v → sd v < x → lk ≤ x ∧ sd u ≤ sd x) ∧ (sd v ≤ sd u → x = (at' (sd v) : Int)) ∧ (sd u < sd v → x = (at' u : Int))
theorem dc_as_mono {p sd at' : Nat → Nat} {lk lk' v : Nat} {x : Int} (h : dc_As p sd at' lk v x) (hl : lk' ≤ lk) : dc_As p sd at' lk' v x := by
  obtain ⟨u, u1, u2, u3, u4, u5⟩ := h
  exact ⟨u, u1, u2, fun x h1 h2 => ⟨by have := (u3 x h1 h2).1; omega, (u3 x h1 h2).2⟩, u4, u5⟩
theorem dc_as_ev {r w v u : Nat} {E : Nat → Nat → Prop} {p sd : Nat → Nat} (T : dc_Tr r E p) (hw0 : 0 < w) (hw : w < r) (hv : w ≤ v) (hs : sd v = p w) (h : dc_Ev p sd w v u) :
    dc_An p u v ∧ sd v < u ∧ ∀ x, dc_An p x v → sd v < x → w ≤ x ∧ sd u ≤ sd x := by
  have hp := (T.2.1 w hw0 hw).1
  rcases h with ⟨g1, g2⟩ | ⟨g1, g2, g3, g4⟩
  · omega
  · refine ⟨g2, by omega, fun x hx hsx => ?_⟩
    have hwx : w ≤ x := by
      rcases Nat.lt_or_ge x w with q | q
      · have := (dc_an_par (dc_an_mid hx (by omega) hv) q hp).1
        omega
      · exact q
    exact ⟨hwx, g4 x hx hwx⟩
theorem dc_eb9 {post : St2 → Prop} {gn ge gr gc gq gf : Int32} {a1 a2 a3 a4 a5 a6 a7 a9 a10 a11 a12 a15 a16 a18 a19 a20 a21 a22 a23 a24 : Nat → Int32} {n r w hi : Nat} {E : Nat → Nat → Prop} {at' p sd : Nat → Nat} {x1 : Int32} {im0 : Nat → Int} (en : gn.toInt = (n : Int)) (A : dc_At n r at') (T : dc_Tr r E p)
    (hw0 : 0 < w) (hw : w < r) (hhi : hi ≤ r) (hx1 : x1.toInt = (at' (p w) : Int))
    (hbn : ∀ v, w ≤ v → v < hi → sd v = p w → dc_Nb at' sd (p w) (v + 1) hi (dc_ti a16 (at' v)))
    (K : ∀ a8 a13 a14 a17 lb an, dc_Fo r at' p sd w lb an (dc_ti a12) (dc_ti a13) (dc_ti a14) → (∀ v, w ≤ v → v < hi → sd v = p w → dc_As p sd at' w v (dc_ti a17 (at' v))) →
      (∀ v, v < r → ¬ (w ≤ v ∧ v < hi ∧ sd v = p w) → dc_ti a17 (at' v) = im0 (at' v)) → post (gn, ge, gr, gc, gq, gf, a1, a2, a3, a4, a5, a6, a7, a8, a9, a10, a11, a12, a13, a14, upd a15 (at' (p w)) (-1), a16, a17, a18, a19, a20, a21, a22, a23, a24)) :
    ∀ (f k lo : Nat) (x2 x3 : Int32) (a8 a13 a14 a17 : Nat → Int32) (lb an : Nat → Nat), hi < lo + f → k + w ≤ lo → lo ≤ hi → dc_Nb at' sd (p w) lo hi x2.toInt → x3.toInt = (k : Int) →
      dc_Fo r at' p sd w lb an (dc_ti a12) (dc_ti a13) (dc_ti a14) → (∀ v, w ≤ v → v < lo → sd v = p w → dc_As p sd at' w v (dc_ti a17 (at' v))) →
      (∀ v, v < r → ¬ (w ≤ v ∧ v < lo ∧ sd v = p w) → dc_ti a17 (at' v) = im0 (at' v)) →
      wX_emptyBucket_9 post x1 f x2 x3 gn ge gr gc gq gf a1 a2 a3 a4 a5 a6 a7 a8 a9 a10 a11 a12 a13 a14 a15 a16 a17 a18 a19 a20 a21 a22 a23 a24 := by
  obtain ⟨A1, A2, A3, A4⟩ := id A
  have hp := (T.2.1 w hw0 hw).1
  have ap := A3 (p w) (by omega)
  have v1 : vp_in x1 24 := dc_in hx1 (by omega)
  intro f
  induction f with
  | zero => intro k lo x2 x3 a8 a13 a14 a17 lb an hf _ hl; exact absurd hf (by omega)
  | succ f ih =>
    intro k lo x2 x3 a8 a13 a14 a17 lb an hf hk hl hx2 hx3 F hA hO
    refine br_f (fun z => by rw [dc_le, en, hx3] at z; omega) ?_
    refine dc_bre (fun q => ?_) (fun q => ?_)
    · rw [dc_im1] at q
      refine ⟨v1, fun b15 e15 => ?_⟩
      rw [dc_cl hx1] at e15
      subst e15
      have none := dc_nb_none hx2 q
      refine K a8 a13 a14 a17 lb an F (fun v h1 h2 h3 => ?_) (fun v hv hn => hO v hv (fun z => hn ⟨z.1, by omega, z.2.2⟩))
      rcases Nat.lt_or_ge v lo with c | c
      · exact hA v h1 c h3
      · exact absurd h3 (none v c h2)
    · rw [dc_im1] at q
      obtain ⟨v, e1, e2, e3, e4, e5⟩ := dc_nb_some hx2 q
      have av := A3 v (by omega)
      refine dc_lowest en A hw0 F (show v < r by omega) e1 (fun a8 a13 a14 lb an res u F' hres hu hev => ?_)
      have au := A3 u hu
      obtain ⟨k1, k2, k3⟩ := dc_as_ev T hw0 hw (by omega) e4 hev
      have v2 : vp_in x2 24 := dc_in e1 (by omega)
      have hy3 : (x3 + 1).toInt = ((k + 1 : Nat) : Int) := dc_inc hx3 (by omega)
      have s1 : (a12 (at' v)).toInt = (sd v : Int) := (F'.1 v (by omega)).1
      have s2 : (a12 (at' u)).toInt = (sd u : Int) := (F'.1 u hu).1
      have hne : ∀ v', v' < r → v' ≠ v → at' v' ≠ at' v := fun v' h1 h2 h3 => h2 (A4 v' v h1 (by omega) h3)
      have step : ∀ z0 : Int32, dc_As p sd at' w v z0.toInt → wX_emptyBucket_56 post (wX_emptyBucket_9 post x1 f) x1 x2 x3 z0 x2 gn ge gr gc gq gf a1 a2 a3 a4 a5 a6 a7 a8 a9 a10 a11 a12 a13 a14 a15 a16 a17 a18 a19 a20 a21 a22 a23 a24 := by
        intro z0 hz
        unfold wX_emptyBucket_56
        refine ⟨v2, fun b17 e17 => ⟨v2, fun y2 ey2 => fun y3 ey3 => ?_⟩⟩
        rw [dc_cl e1] at e17 ey2
        subst e17 ey2 ey3
        refine ih (k + 1) (v + 1) _ _ a8 a13 a14 _ lb an (by omega) (by omega) (by omega) (hbn v (by omega) e3 e4) hy3 F' (fun v' h1 h2 h3 => ?_) (fun v' hv' hn => ?_)
        · rw [dc_ti_upd]
          by_cases z : v' = v
          · rw [z, dc_iu_s]; exact hz
          · rw [dc_iu_n (hne v' (by omega) z)]
            rcases Nat.lt_or_ge v' lo with c | c
            · exact hA v' h1 c h3
            · exact absurd h3 (e5 v' c (by omega))
        · rw [dc_ti_upd]
          by_cases z : v' = v
          · exact absurd (show w ≤ v' ∧ v' < v + 1 ∧ sd v' = p w from ⟨by omega, by omega, by rw [z]; exact e4⟩) hn
          · rw [dc_iu_n (hne v' hv' z)]
            exact hO v' hv' (fun c => hn ⟨c.1, by omega, c.2.2⟩)
      refine And.intro (dc_in hres (by omega)) (And.intro v2 ?_)
      rw [dc_cl hres, dc_cl e1]
      refine dc_brl (fun c => ?_) (fun c => ?_)
      · rw [s1, s2] at c
        exact step x1 ⟨u, k1, k2, k3, fun _ => by rw [hx1, e4], fun d => by omega⟩
      · rw [s1, s2] at c
        exact step res ⟨u, k1, k2, k3, fun d => by omega, fun _ => hres⟩
theorem dc_emptyBucket {post : St2 → Prop} {gn ge gr gc gq gf : Int32} {a1 a2 a3 a4 a5 a6 a7 a8 a9 a10 a11 a12 a13 a14 a15 a16 a17 a18 a19 a20 a21 a22 a23 a24 : Nat → Int32} {n r w hi : Nat} {E : Nat → Nat → Prop} {at' p sd lb an : Nat → Nat} {x1 : Int32} (en : gn.toInt = (n : Int)) (A : dc_At n r at') (T : dc_Tr r E p)
    (hw0 : 0 < w) (hw : w < r) (hwhi : w ≤ hi) (hhi : hi ≤ r) (hx1 : x1.toInt = (at' (p w) : Int))
    (hbf : dc_Nb at' sd (p w) w hi (dc_ti a15 (at' (p w))))
    (hbn : ∀ v, w ≤ v → v < hi → sd v = p w → dc_Nb at' sd (p w) (v + 1) hi (dc_ti a16 (at' v)))
    (F : dc_Fo r at' p sd w lb an (dc_ti a12) (dc_ti a13) (dc_ti a14))
    (K : ∀ a8 a13 a14 b17 lb an, dc_Fo r at' p sd w lb an (dc_ti a12) (dc_ti a13) (dc_ti a14) → (∀ v, w ≤ v → v < hi → sd v = p w → dc_As p sd at' w v (dc_ti b17 (at' v))) →
      (∀ v, v < r → ¬ (w ≤ v ∧ v < hi ∧ sd v = p w) → dc_ti b17 (at' v) = dc_ti a17 (at' v)) → post (gn, ge, gr, gc, gq, gf, a1, a2, a3, a4, a5, a6, a7, a8, a9, a10, a11, a12, a13, a14, upd a15 (at' (p w)) (-1), a16, b17, a18, a19, a20, a21, a22, a23, a24)) :
    wpX_emptyBucket post (gn, ge, gr, gc, gq, gf, a1, a2, a3, a4, a5, a6, a7, a8, a9, a10, a11, a12, a13, a14, a15, a16, a17, a18, a19, a20, a21, a22, a23, a24) x1 := by
  obtain ⟨A1, A2, A3, A4⟩ := id A
  have hp := (T.2.1 w hw0 hw).1
  have ap := A3 (p w) (by omega)
  unfold wpX_emptyBucket
  refine And.intro (dc_in hx1 (by omega)) (fun x2 e2 => ⟨hi + 1, ?_⟩)
  rw [dc_cl hx1] at e2
  refine dc_eb9 (im0 := dc_ti a17) en A T hw0 hw hhi hx1 hbn K (hi + 1) 0 w x2 0 a8 a13 a14 a17 lb an (by omega) (by omega) hwhi ?_ dc_i0' F (fun v h1 h2 => absurd h1 (by omega)) (fun v _ _ => rfl)
  rw [e2]
  exact hbf
/-- the search for semi-dominators under way: all from lk on are done -/
def dc_Fs (r : Nat) (E : Nat → Nat → Prop) (at' p : Nat → Nat) (lk : Nat) (sd lb an lim : Nat → Nat) (sm la ac bf bn im : Nat → Int) : Prop :=
  0 < lk ∧ lk ≤ r ∧ dc_Fo r at' p sd lk lb an sm la ac ∧ (∀ i, i < lk → sd i = i) ∧ (∀ i, lk ≤ i → i < r → dc_Sd E p sd i) ∧
  (∀ s, s < r → lk ≤ lim s ∧ lim s ≤ r ∧ dc_Nb at' sd s lk (lim s) (bf (at' s))) ∧
  (∀ v, lk ≤ v → v < r → v < lim (sd v) → dc_Nb at' sd (sd v) (v + 1) (lim (sd v)) (bn (at' v)) ∧ ∀ x, dc_An p x v → p x = sd v → x < lk) ∧
  (∀ v, lk ≤ v → v < r → lim (sd v) ≤ v → dc_As p sd at' lk v (im (at' v)))
theorem dc_fo_link {n r w : Nat} {E : Nat → Nat → Prop} {at' p sd lb an : Nat → Nat} {sm la ac : Nat → Int} {z : Int} (A : dc_At n r at') (T : dc_Tr r E p) (hw0 : 0 < w) (hw : w < r)
    (F : dc_Fo r at' p sd (w + 1) lb an sm la ac) (hz : z = (at' (p w) : Int)) : dc_Fo r at' p sd w lb (dc_nu an w (p w)) sm la (dc_iu ac (at' w) z) := by
  obtain ⟨F1, F2, F3⟩ := F
  have hp := (T.2.1 w hw0 hw).1
  refine ⟨fun i hi => ?_, fun i h1 h2 => ?_, fun i hi => F3 i (by omega)⟩
  · obtain ⟨f1, f2, f3, f4⟩ := F1 i hi
    by_cases e : i = w
    · subst e
      rw [dc_iu_s, dc_nu_s]
      exact ⟨f1, f2, fun q => absurd q (by omega), fun _ => hz⟩
    · rw [dc_iu_n (fun q => e (A.2.2.2 i w hi hw q)), dc_nu_n e]
      exact ⟨f1, f2, fun q => f3 (by omega), fun q => f4 (by omega)⟩
  · unfold dc_L
    by_cases e : i = w
    · subst e
      rw [dc_nu_s, F3 i (by omega)]
      refine ⟨hp, dc_an_edge T hw0 hw, dc_an_refl p i, hp, fun x hx hpx => ?_⟩
      have hx1 := hx.1
      have : x = i := by
        rcases Nat.lt_or_ge x i with q | q
        · have := (dc_an_par hx q hp).1
          omega
        · omega
      rw [this]
      exact ⟨Nat.le_refl _, Nat.le_refl _⟩
    · rw [dc_nu_n e]
      obtain ⟨l1, l2, l3, l4, l5⟩ := F2 i (by omega) h2
      exact ⟨l1, l2, l3, l4, fun x hx hax => ⟨by have := (l5 x hx hax).1; omega, (l5 x hx hax).2⟩⟩
theorem dc_as_ext {p sd sd' at' : Nat → Nat} {w v : Nat} {x : Int} (e : ∀ i, w < i → i ≤ v → sd' i = sd i) (hv : w < v) (h : dc_As p sd at' (w + 1) v x) : dc_As p sd' at' (w + 1) v x := by
  obtain ⟨u, u1, u2, u3, u4, u5⟩ := h
  have hu := (u3 u u1 u2).1
  have hu' := u1.1
  unfold dc_As
  rw [e v hv (Nat.le_refl v)]
  refine ⟨u, u1, u2, fun x h1 h2 => ?_, ?_, ?_⟩
  · obtain ⟨q1, q2⟩ := u3 x h1 h2
    have hx := h1.1
    rw [e u (by omega) hu', e x (by omega) hx]
    exact ⟨q1, q2⟩
  · rw [e u (by omega) hu']; exact u4
  · rw [e u (by omega) hu']; exact u5
theorem dc_fs_next {n r w : Nat} {E : Nat → Nat → Prop} {at' p sd sd' lb lb2 an an2 lim : Nat → Nat} {sm la ac bf bn im sm2 la2 ac2 im2 : Nat → Int} {x y z : Int}
    (A : dc_At n r at') (T : dc_Tr r E p) (hw0 : 0 < w) (hw : w < r) (h : dc_Fs r E at' p (w + 1) sd lb an lim sm la ac bf bn im)
    (hsd : ∀ i, i < r → i ≠ w → sd' i = sd i) (hS : dc_Sd E p sd' w) (hx : x = bf (at' (sd' w))) (hy : y = (at' w : Int)) (hz : z = -1) :
    (w ≤ lim (p w) ∧ lim (p w) ≤ r ∧ dc_Nb at' sd' (p w) w (lim (p w)) (dc_iu bf (at' (sd' w)) y (at' (p w))) ∧
      ∀ v, w ≤ v → v < lim (p w) → sd' v = p w → dc_Nb at' sd' (p w) (v + 1) (lim (p w)) (dc_iu bn (at' w) x (at' v))) ∧
    (dc_Fo r at' p sd' w lb2 an2 sm2 la2 ac2 → (∀ v, w ≤ v → v < lim (p w) → sd' v = p w → dc_As p sd' at' w v (im2 (at' v))) →
      (∀ v, v < r → ¬ (w ≤ v ∧ v < lim (p w) ∧ sd' v = p w) → im2 (at' v) = im (at' v)) →
      dc_Fs r E at' p w sd' lb2 an2 (dc_nu lim (p w) w) sm2 la2 ac2 (dc_iu (dc_iu bf (at' (sd' w)) y) (at' (p w)) z) (dc_iu bn (at' w) x) im2) := by
  obtain ⟨h0, hr, F, hid, hSd, hB, hV, hA⟩ := h
  obtain ⟨A1, A2, A3, A4⟩ := A
  have hp := (T.2.1 w hw0 hw).1
  have hsw := hS.1
  have eq : ∀ v, w < v → v < r → sd' v = sd v := fun v h1 h2 => hsd v h2 (by omega)
  have sdlt : ∀ v, w ≤ v → v < r → sd' v < r := by
    intro v h1 h2
    by_cases e : v = w
    · rw [e]; omega
    · rw [eq v (by omega) h2]
      have := (hSd v (by omega) h2).1
      omega
  have B : ∀ s, s < r → w < lim s ∧ lim s ≤ r ∧ dc_Nb at' sd' s w (lim s) (dc_iu bf (at' (sd' w)) y (at' s)) := by
    intro s hs
    obtain ⟨b1, b2, b3⟩ := hB s hs
    refine ⟨by omega, b2, ?_⟩
    have b4 : dc_Nb at' sd' s (w + 1) (lim s) (bf (at' s)) := dc_nb_ext (fun v c d => eq v (by omega) (by omega)) b3
    by_cases e : s = sd' w
    · rw [e, dc_iu_s, ← e]
      exact Or.inr ⟨w, hy, Nat.le_refl w, by omega, e.symm, fun j c d => absurd c (by omega)⟩
    · rw [dc_iu_n (fun q => e (A4 s (sd' w) hs (by omega) q))]
      exact dc_nb_ne (fun q => e q.symm) b4
  have C : ∀ v, w ≤ v → v < r → v < lim (sd' v) → dc_Nb at' sd' (sd' v) (v + 1) (lim (sd' v)) (dc_iu bn (at' w) x (at' v)) ∧ ∀ x, dc_An p x v → p x = sd' v → x < w + 1 := by
    intro v h1 h2 h3
    by_cases e : v = w
    · subst e
      rw [dc_iu_s, hx]
      obtain ⟨b1, b2, b3⟩ := hB (sd' v) (by omega)
      refine ⟨dc_nb_ext (fun j c d => eq j (by omega) (by omega)) b3, fun q hq _ => ?_⟩
      have := hq.1
      omega
    · rw [dc_iu_n (fun q => e (A4 v w h2 hw q))]
      have es := eq v (by omega) h2
      rw [es] at h3 ⊢
      obtain ⟨c1, c2⟩ := hV v (by omega) h2 h3
      have hl := (hB (sd v) (by have := (hSd v (by omega) h2).1; omega)).2.1
      exact ⟨dc_nb_ext (fun j c d => eq j (by omega) (by omega)) c1, c2⟩
  have D : ∀ v, w + 1 ≤ v → v < r → lim (sd' v) ≤ v → dc_As p sd' at' (w + 1) v (im (at' v)) := by
    intro v h1 h2 h3
    rw [eq v (by omega) h2] at h3
    exact dc_as_ext (fun i c d => eq i c (by omega)) (by omega) (hA v h1 h2 h3)
  obtain ⟨p1, p2, p3⟩ := B (p w) (by omega)
  refine ⟨⟨by omega, p2, p3, fun v h1 h2 h3 => ?_⟩, ?_⟩
  · have := (C v h1 (by omega) (by rw [h3]; exact h2)).1
    rw [h3] at this
    exact this
  · intro F2 hA2 hO2
    refine ⟨hw0, by omega, F2, fun i hi => ?_, fun i h1 h2 => ?_, fun s hs => ?_, fun v h1 h2 h3 => ?_, fun v h1 h2 h3 => ?_⟩
    · rw [hsd i (by omega) (by omega)]
      exact hid i (by omega)
    · by_cases e : i = w
      · rw [e]; exact hS
      · obtain ⟨s1, s2, s3, s4⟩ := hSd i (by omega) h2
        have ei := eq i (by omega) h2
        unfold dc_Sd
        rw [ei]
        refine ⟨s1, ?_, s3, fun u v hv ha hu => ?_⟩
        · rcases s2 with q | ⟨u, v, q1, q2, q3, q4⟩
          · exact Or.inl q
          · refine Or.inr ⟨u, v, q1, q2, q3, ?_⟩
            have := (T.1 v i q3).1
            have := q2.1
            rw [eq u (by omega) (by omega)]
            exact q4
        · have := (T.1 v i hv).1
          have := ha.1
          rw [eq u (by omega) (by omega)]
          exact s4 u v hv ha hu
    · by_cases e : s = p w
      · rw [e, dc_nu_s, dc_iu_s]
        exact ⟨Nat.le_refl w, by omega, Or.inl ⟨hz, fun v c d => absurd c (by omega)⟩⟩
      · rw [dc_nu_n e, dc_iu_n (fun q => e (A4 s (p w) hs (by omega) q))]
        obtain ⟨b1, b2, b3⟩ := B s hs
        exact ⟨by omega, b2, b3⟩
    · by_cases e : sd' v = p w
      · rw [e, dc_nu_s] at h3
        omega
      · rw [dc_nu_n e] at h3 ⊢
        obtain ⟨c1, c2⟩ := C v h1 h2 h3
        refine ⟨c1, fun x hx hpx => ?_⟩
        have q1 := c2 x hx hpx
        have q2 : x ≠ w := fun q => e (by rw [← hpx, q])
        omega
    · by_cases e : sd' v = p w
      · rcases Nat.lt_or_ge v (lim (p w)) with c | c
        · exact hA2 v h1 c e
        · rw [hO2 v h2 (fun q => by omega)]
          exact dc_as_mono (D v (by omega) h2 (by rw [e]; exact c)) (by omega)
      · rw [dc_nu_n e] at h3
        rw [hO2 v h2 (fun q => e q.2.2)]
        have := (B (sd' v) (sdlt v h1 h2)).1
        exact dc_as_mono (D v (by omega) h2 h3) (by omega)
theorem dc_fs_end {r : Nat} {E : Nat → Nat → Prop} {at' p sd lb an lim : Nat → Nat} {sm la ac bf bn im : Nat → Int} (T : dc_Tr r E p) (h : dc_Fs r E at' p 1 sd lb an lim sm la ac bf bn im) :
    (∀ i, i < r → sm (at' i) = (sd i : Int)) ∧ (∀ w, 0 < w → w < r → dc_Sd E p sd w) ∧ ∀ v, 0 < v → v < r → dc_As p sd at' 1 v (im (at' v)) := by
  obtain ⟨h0, hr, F, hid, hSd, hB, hV, hA⟩ := h
  refine ⟨fun i hi => (F.1 i hi).1, fun w h1 h2 => hSd w h1 h2, fun v h1 h2 => ?_⟩
  have hs := (hSd v h1 h2).1
  rcases Nat.lt_or_ge v (lim (sd v)) with c | c
  · have hp := (dc_semi T (fun w a b => hSd w a b) (r - v) v h1 h2 (Nat.le_refl _)).1
    obtain ⟨x, x1, x2, x3⟩ := dc_child T v h2 (dc_hp_an T hs hp) hs
    have := (hV v h1 h2 c).2 x x1 x2
    omega
  · exact hA v h1 h2 c
theorem dc_fs63 {post : St2 → Prop} {gn ge gr gc gq gf : Int32} {a1 a2 a3 a4 a5 a6 a7 a9 a10 a11 a18 a19 a20 a21 a22 a23 a24 : Nat → Int32} {n m r : Nat} {T H at' p : Nat → Nat} (g : dc_G n m T H gn ge a1 a2)
    (dn : dc_Dn n m T H r at' p (dc_ti a9) (dc_ti a10) (dc_ti a11)) (A : dc_At n r at') (hin : dc_Ch n m H (dc_ti a5) (dc_ti a6) 0)
    (K : ∀ a8 a12 a13 a14 a15 a16 a17 sd, (∀ i, i < r → dc_ti a12 (at' i) = (sd i : Int)) → (∀ w, 0 < w → w < r → dc_Sd (dc_En m T H r at') p sd w) →
      (∀ v, 0 < v → v < r → dc_As p sd at' 1 v (dc_ti a17 (at' v))) → post (gn, ge, gr, gc, gq, gf, a1, a2, a3, a4, a5, a6, a7, a8, a9, a10, a11, a12, a13, a14, a15, a16, a17, a18, a19, a20, a21, a22, a23, a24)) :
    ∀ (w : Nat) (x1 : Int32) (a8 a12 a13 a14 a15 a16 a17 : Nat → Int32) (sd lb an lim : Nat → Nat), x1.toInt = (w : Int) →
      dc_Fs r (dc_En m T H r at') at' p (w + 1) sd lb an lim (dc_ti a12) (dc_ti a13) (dc_ti a14) (dc_ti a15) (dc_ti a16) (dc_ti a17) →
      wX_findSemi_63 post (w + 1) x1 gn ge gr gc gq gf a1 a2 a3 a4 a5 a6 a7 a8 a9 a10 a11 a12 a13 a14 a15 a16 a17 a18 a19 a20 a21 a22 a23 a24 := by
  have Tr := dc_dn_tr dn
  obtain ⟨n2, n24, m60, en, em, ed⟩ := id g
  obtain ⟨A1, A2, A3, A4⟩ := id A
  intro w
  induction w with
  | zero =>
    intro x1 a8 a12 a13 a14 a15 a16 a17 sd lb an lim hx1 h
    obtain ⟨k1, k2, k3⟩ := dc_fs_end Tr h
    exact br_t (dc_le.mpr (by rw [hx1, dc_i0]; omega)) (K a8 a12 a13 a14 a15 a16 a17 sd k1 k2 k3)
  | succ w ih =>
    intro x1 a8 a12 a13 a14 a15 a16 a17 sd lb an lim hx1 h
    obtain ⟨h0, hr, F, hid, hSd, hB, hV, hA⟩ := id h
    have hw : w + 1 < r := by omega
    have aw := A3 _ hw
    have hp := (Tr.2.1 (w + 1) (by omega) hw).1
    have ap := A3 (p (w + 1)) (by omega)
    refine br_f (fun z => by rw [dc_le, hx1, dc_i0] at z; omega) ?_
    rw [dc_cl hx1]
    refine ⟨dc_in hx1 (by omega), fun x2 e2 => ?_⟩
    have h2 : x2.toInt = (at' (w + 1) : Int) := by rw [e2]; exact (dn.2.1 _ hw).2.2
    have v2 : vp_in x2 24 := dc_in h2 (by omega)
    refine dc_lowerBySources g dn A hin (by omega) hw h2 hid F (fun a8 a12 a13 a14 sd' lb an hsd F' hS => ?_)
    have hsw := hS.1
    have s1 : (a12 (at' (w + 1))).toInt = (sd' (w + 1) : Int) := (F'.1 _ hw).1
    have as' := A3 (sd' (w + 1)) (by omega)
    refine And.intro v2 ?_
    rw [dc_cl h2, dc_cl s1]
    refine And.intro (dc_in s1 (by omega)) (fun x3 e3 => ?_)
    have h3 : x3.toInt = (at' (sd' (w + 1)) : Int) := by rw [e3]; exact (dn.2.1 _ (by omega)).2.2
    have v3 : vp_in x3 24 := dc_in h3 (by omega)
    rw [dc_cl h3]
    refine ⟨v3, v2, fun b16 e16 => ⟨v3, fun b15 e15 => ⟨v2, v2, fun b14 e14 => ⟨v2, ?_⟩⟩⟩⟩
    subst e16 e15 e14
    have h11 : (a11 (at' (w + 1))).toInt = (at' (p (w + 1)) : Int) := (dn.2.2.2.1 (w + 1) (by omega) hw).2.1
    have N := fun (lb2 an2 : Nat → Nat) (sm2 la2 ac2 im2 : Nat → Int) => dc_fs_next (lb2 := lb2) (an2 := an2) (sm2 := sm2) (la2 := la2) (ac2 := ac2) (im2 := im2)
      (x := (a15 (at' (sd' (w + 1)))).toInt) (y := x2.toInt) (z := (-1 : Int32).toInt) A Tr (by omega) hw h hsd hS rfl h2 dc_im1
    obtain ⟨⟨q1, q2, q3, q4⟩, _⟩ := N lb an (dc_ti a12) (dc_ti a13) (dc_ti a14) (dc_ti a17)
    refine dc_emptyBucket en A Tr (by omega) hw q1 q2 h11 (by rw [dc_ti_upd]; exact q3) (by rw [dc_ti_upd]; exact q4) (by rw [dc_ti_upd]; exact dc_fo_link A Tr (by omega) hw F' h11) (fun a8 a13 a14 b17 lb an F'' hA2 hO2 => ?_)
    intro y1 ey1
    refine ih y1 a8 a12 a13 a14 _ _ b17 sd' lb an (dc_nu lim (p (w + 1)) (w + 1)) ?_ ?_
    · rw [ey1]
      exact dc_add (by rw [hx1, dc_im1]; omega) (by omega) (by omega)
    · have := (N lb an (dc_ti a12) (dc_ti a13) (dc_ti a14) (dc_ti b17)).2 F'' hA2 hO2
      rw [dc_ti_upd, dc_ti_upd, dc_ti_upd]
      exact this
theorem dc_fs2 {post : St2 → Prop} {gn ge gr gc gq gf : Int32} {a1 a2 a3 a4 a5 a6 a7 a8 a9 a10 a11 a16 a18 a19 a20 a21 a22 a23 a24 : Nat → Int32} {n m r : Nat} {T H at' p : Nat → Nat} (g : dc_G n m T H gn ge a1 a2) (hr : gr.toInt = (r : Int))
    (dn : dc_Dn n m T H r at' p (dc_ti a9) (dc_ti a10) (dc_ti a11)) (A : dc_At n r at') (hin : dc_Ch n m H (dc_ti a5) (dc_ti a6) 0)
    (K : ∀ a8 a12 a13 a14 a15 a16 a17 sd, (∀ i, i < r → dc_ti a12 (at' i) = (sd i : Int)) → (∀ w, 0 < w → w < r → dc_Sd (dc_En m T H r at') p sd w) →
      (∀ v, 0 < v → v < r → dc_As p sd at' 1 v (dc_ti a17 (at' v))) → post (gn, ge, gr, gc, gq, gf, a1, a2, a3, a4, a5, a6, a7, a8, a9, a10, a11, a12, a13, a14, a15, a16, a17, a18, a19, a20, a21, a22, a23, a24)) :
    ∀ (k i : Nat) (x1 : Int32) (a12 a13 a14 a15 a17 : Nat → Int32), i + k = n → x1.toInt = (i : Int) →
      (∀ v, v < i → a12 v = a9 v ∧ (a13 v).toInt = (v : Int) ∧ (a14 v).toInt = -1 ∧ (a15 v).toInt = -1) →
      wX_findSemi_2 post gn ge gr gc gq gf (k + 1) x1 a1 a2 a3 a4 a5 a6 a7 a8 a9 a10 a11 a12 a13 a14 a15 a16 a17 a18 a19 a20 a21 a22 a23 a24 := by
  obtain ⟨n2, n24, m60, en, em, ed⟩ := id g
  obtain ⟨A1, A2, A3, A4⟩ := id A
  have r0 := dn.1.1
  intro k
  induction k with
  | zero =>
    intro i x1 a12 a13 a14 a15 a17 hk hx h
    refine br_t (dc_le.mpr (by omega)) (fun y ey => ⟨r - 1 + 1, ?_⟩)
    refine dc_fs63 g dn A hin K (r - 1) y a8 a12 a13 a14 a15 a16 a17 (fun i => i) (fun i => i) (fun i => i) (fun _ => r) ?_ ?_
    · rw [ey]
      exact dc_sub (by rw [hr, dc_i1]; omega) (by omega) (by omega)
    · rw [show r - 1 + 1 = r by omega]
      refine ⟨r0, Nat.le_refl r, ⟨fun i hi => ?_, fun i h1 h2 => absurd h1 (by omega), fun i _ => rfl⟩, fun i _ => rfl, fun i h1 h2 => absurd h1 (by omega), fun s hs => ?_, fun v h1 h2 => absurd h1 (by omega), fun v h1 h2 => absurd h1 (by omega)⟩
      · obtain ⟨q1, q2, q3, q4⟩ := h (at' i) (by have := A3 i hi; omega)
        refine ⟨?_, q2, fun _ => q3, fun z => absurd hi (by omega)⟩
        have := (dn.2.1 i hi).2.1
        unfold dc_ti at this ⊢
        rw [q1]
        exact this
      · exact ⟨Nat.le_refl r, Nat.le_refl r, Or.inl ⟨(h (at' s) (by have := A3 s hs; omega)).2.2.2, fun v c d => absurd (show v < r from d) (by omega)⟩⟩
  | succ k ih =>
    intro i x1 a12 a13 a14 a15 a17 hk hx h
    refine br_f (fun z => by rw [dc_le] at z; omega) ?_
    rw [dc_cl hx]
    have v1 : vp_in x1 24 := dc_in hx (by omega)
    refine ⟨v1, v1, fun b12 e12 => ⟨v1, fun b13 e13 => ⟨v1, fun b14 e14 => ⟨v1, fun b15 e15 => ⟨v1, fun b17 e17 => fun y ey => ?_⟩⟩⟩⟩⟩
    subst e12 e13 e14 e15 e17 ey
    refine ih (i + 1) _ _ _ _ _ _ (by omega) (dc_inc hx (by omega)) (fun v hv => ?_)
    by_cases z : v = i
    · rw [z, pk_us, pk_us, pk_us, pk_us]
      exact ⟨rfl, hx, dc_im1, dc_im1⟩
    · rw [pk_un z, pk_un z, pk_un z, pk_un z]
      exact h v (by omega)
theorem dc_findSemi {post : St2 → Prop} {gn ge gr gc gq gf : Int32} {a1 a2 a3 a4 a5 a6 a7 a8 a9 a10 a11 a12 a13 a14 a15 a16 a17 a18 a19 a20 a21 a22 a23 a24 : Nat → Int32} {n m r : Nat} {T H at' p : Nat → Nat} (g : dc_G n m T H gn ge a1 a2) (hr : gr.toInt = (r : Int))
    (dn : dc_Dn n m T H r at' p (dc_ti a9) (dc_ti a10) (dc_ti a11)) (A : dc_At n r at') (hin : dc_Ch n m H (dc_ti a5) (dc_ti a6) 0)
    (K : ∀ a8 a12 a13 a14 a15 a16 a17 sd, (∀ i, i < r → dc_ti a12 (at' i) = (sd i : Int)) → (∀ w, 0 < w → w < r → dc_Sd (dc_En m T H r at') p sd w) →
      (∀ v, 0 < v → v < r → dc_As p sd at' 1 v (dc_ti a17 (at' v))) → post (gn, ge, gr, gc, gq, gf, a1, a2, a3, a4, a5, a6, a7, a8, a9, a10, a11, a12, a13, a14, a15, a16, a17, a18, a19, a20, a21, a22, a23, a24)) : wpX_findSemi post (gn, ge, gr, gc, gq, gf, a1, a2, a3, a4, a5, a6, a7, a8, a9, a10, a11, a12, a13, a14, a15, a16, a17, a18, a19, a20, a21, a22, a23, a24) :=
  Exists.intro (n + 1) (dc_fs2 g hr dn A hin K n 0 0 a12 a13 a14 a15 a17 (by omega) dc_i0 (fun v hv => absurd hv (by omega)))
end
section
/-- the first immediate dominator of j, in numbers -/
def dc_Pr (p sd dd : Nat → Nat) (j : Nat) : Prop :=
  ∃ u, dc_An p u j ∧ sd j < u ∧ (∀ x, dc_An p x j → sd j < x → sd u ≤ sd x) ∧ (sd j ≤ sd u → dd j = sd j) ∧ (sd u < sd j → dd j = u)
theorem dc_st2 {post : St2 → Prop} {gn ge gr gc gq gf : Int32} {a1 a2 a3 a4 a5 a6 a7 a8 a9 a10 a11 a12 a13 a14 a15 a16 a18 a19 a20 a21 a22 a23 a24 : Nat → Int32} {n r : Nat} {at' p sd : Nat → Nat} (A : dc_At n r at') (hr : gr.toInt = (r : Int)) (r0 : 0 < r) (at0 : at' 0 = 0)
    (h10 : ∀ i, i < r → (a10 i).toInt = (at' i : Int)) (h12 : ∀ i, i < r → (a12 (at' i)).toInt = (sd i : Int)) (hsd : ∀ w, 0 < w → w < r → sd w < w)
    (K : ∀ a17 dd, (∀ w, 0 < w → w < r → dc_Id p sd dd w ∧ dc_ti a17 (at' w) = (at' (dd w) : Int)) → post (gn, ge, gr, gc, gq, gf, a1, a2, a3, a4, a5, a6, a7, a8, a9, a10, a11, a12, a13, a14, a15, a16, a17, a18, a19, a20, a21, a22, a23, a24)) :
    ∀ (k i : Nat) (x1 : Int32) (a17 : Nat → Int32) (dd : Nat → Nat), i + k = r → 0 < i → x1.toInt = (i : Int) → (∀ j, 0 < j → j < r → (a17 (at' j)).toInt = (at' (dd j) : Int)) →
      (∀ j, 0 < j → j < i → dc_Id p sd dd j) → (∀ j, i ≤ j → j < r → dc_Pr p sd dd j) → wX_settle_2 post gn ge gr gc gq gf (k + 1) x1 a1 a2 a3 a4 a5 a6 a7 a8 a9 a10 a11 a12 a13 a14 a15 a16 a17 a18 a19 a20 a21 a22 a23 a24 := by
  obtain ⟨A1, A2, A3, A4⟩ := id A
  intro k
  induction k with
  | zero =>
    intro i x1 a17 dd hk hi hx ha hI hP
    refine br_t (dc_le.mpr (by omega)) (fun b17 e17 => ?_)
    subst e17
    refine K _ dd (fun w h0 hw => ⟨hI w h0 (by omega), ?_⟩)
    show (upd a17 0 (-1) (at' w)).toInt = _
    rw [pk_un (fun z => by have := A4 w 0 hw r0 (by rw [z, at0]); omega)]
    exact ha w h0 hw
  | succ k ih =>
    intro i x1 a17 dd hk hi hx ha hI hP
    refine br_f (fun z => by rw [dc_le] at z; omega) ?_
    rw [dc_cl hx]
    have hir : i < r := by omega
    have ai := A3 i hir
    have si := hsd i hi hir
    have as' := A3 (sd i) (by omega)
    obtain ⟨u, u1, u2, u3, u4, u5⟩ := hP i (Nat.le_refl i) hir
    have ui := u1.1
    have di : dd i ≤ i := by
      rcases Nat.lt_or_ge (sd u) (sd i) with c | c
      · rw [u5 c]; exact ui
      · rw [u4 c]; omega
    refine ⟨dc_in hx (by omega), fun x2 e2 => ?_⟩
    have h2 : x2.toInt = (at' i : Int) := by rw [e2]; exact h10 i hir
    have v2 : vp_in x2 24 := dc_in h2 (by omega)
    have s1 := h12 i hir
    have d1 := ha i hi hir
    have s2 := h10 (sd i) (by omega)
    rw [dc_cl h2, dc_cl s1]
    refine ⟨v2, v2, dc_in s1 (by omega), ?_⟩
    refine dc_bre (fun c => ?_) (fun c => ?_)
    · rw [d1, s2] at c
      have c' : dd i = sd i := A4 _ _ (by omega) (by omega) (by omega)
      intro y ey
      subst ey
      refine ih (i + 1) _ a17 dd (by omega) (by omega) (dc_inc hx (by omega)) ha (fun j h0 hj => ?_) (fun j h1 h2 => hP j (by omega) h2)
      by_cases z : j = i
      · rw [z]
        exact ⟨u, u1, u2, u3, u4, fun c2 => by have := u5 c2; omega⟩
      · exact hI j h0 (by omega)
    · rw [d1, s2] at c
      have c1 : sd u < sd i := by
        rcases Nat.lt_or_ge (sd u) (sd i) with q | q
        · exact q
        · exact absurd (by rw [u4 q]) c
      have eu := u5 c1
      have un : u ≠ i := fun q => by rw [q] at c1; omega
      have au := A3 u (by omega)
      rw [eu] at d1
      have d2 := ha u (by omega) (by omega)
      rw [dc_cl d1]
      refine ⟨v2, dc_in d1 (by omega), v2, fun b17 e17 => fun y ey => ?_⟩
      subst e17 ey
      refine ih (i + 1) _ _ (dc_nu dd i (dd u)) (by omega) (by omega) (dc_inc hx (by omega)) (fun j h0 hj => ?_) (fun j h0 hj => ?_) (fun j h1 h2 => ?_)
      · by_cases z : j = i
        · rw [z, pk_us, dc_nu_s]; exact d2
        · rw [pk_un (fun q => z (A4 j i hj hir q)), dc_nu_n z]
          exact ha j h0 hj
      · by_cases z : j = i
        · rw [z]
          refine ⟨u, u1, u2, u3, fun q => by omega, fun _ => ?_⟩
          rw [dc_nu_s, dc_nu_n un]
        · obtain ⟨w, w1, w2, w3, w4, w5⟩ := hI j h0 (by omega)
          have := w1.1
          refine ⟨w, w1, w2, w3, ?_, ?_⟩
          · rw [dc_nu_n z]; exact w4
          · rw [dc_nu_n z, dc_nu_n (by omega)]; exact w5
      · obtain ⟨w, w1, w2, w3, w4, w5⟩ := hP j (by omega) h2
        refine ⟨w, w1, w2, w3, ?_, ?_⟩
        · rw [dc_nu_n (by omega)]; exact w4
        · rw [dc_nu_n (by omega)]; exact w5
theorem dc_settle {post : St2 → Prop} {gn ge gr gc gq gf : Int32} {a1 a2 a3 a4 a5 a6 a7 a8 a9 a10 a11 a12 a13 a14 a15 a16 a17 a18 a19 a20 a21 a22 a23 a24 : Nat → Int32} {n m r : Nat} {T H at' p sd : Nat → Nat} (A : dc_At n r at') (hr : gr.toInt = (r : Int))
    (dn : dc_Dn n m T H r at' p (dc_ti a9) (dc_ti a10) (dc_ti a11)) (h12 : ∀ i, i < r → dc_ti a12 (at' i) = (sd i : Int))
    (hS : ∀ w, 0 < w → w < r → dc_Sd (dc_En m T H r at') p sd w) (hA : ∀ v, 0 < v → v < r → dc_As p sd at' 1 v (dc_ti a17 (at' v)))
    (K : ∀ a17 dd, (∀ w, 0 < w → w < r → dc_Id p sd dd w ∧ dc_ti a17 (at' w) = (at' (dd w) : Int)) → post (gn, ge, gr, gc, gq, gf, a1, a2, a3, a4, a5, a6, a7, a8, a9, a10, a11, a12, a13, a14, a15, a16, a17, a18, a19, a20, a21, a22, a23, a24)) : wpX_settle post (gn, ge, gr, gc, gq, gf, a1, a2, a3, a4, a5, a6, a7, a8, a9, a10, a11, a12, a13, a14, a15, a16, a17, a18, a19, a20, a21, a22, a23, a24) := by
  have nk : ∀ k : Nat, k < r → (dc_ti a9 ((at' k : Int)).toNat).toNat = k := fun k hk => by
    have := (dn.2.1 k hk).2.1
    have e : ((at' k : Int)).toNat = at' k := by omega
    rw [e, this]
    omega
  refine Exists.intro (r - 1 + 1) (dc_st2 (sd := sd) A hr dn.1.1 dn.1.2.2 (fun i hi => (dn.2.1 i hi).2.2) h12 (fun w a b => (hS w a b).1) K (r - 1) 1 1 a17 (fun v => (dc_ti a9 (dc_ti a17 (at' v)).toNat).toNat)
    (by have := dn.1.1; omega) (by omega) dc_i1' (fun j h0 hj => ?_) (fun j h0 hj => absurd h0 (by omega)) (fun j h0 hj => ?_))
  · obtain ⟨u, u1, u2, u3, u4, u5⟩ := hA j h0 hj
    have uj := u1.1
    have sj := (hS j h0 hj).1
    show dc_ti a17 (at' j) = _
    rcases Nat.lt_or_ge (sd u) (sd j) with c | c
    · rw [u5 c, nk u (by omega)]
    · rw [u4 c, nk (sd j) (by omega)]
  · obtain ⟨u, u1, u2, u3, u4, u5⟩ := hA j h0 hj
    have uj := u1.1
    have sj := (hS j h0 hj).1
    refine ⟨u, u1, u2, fun x a b => (u3 x a b).2, fun c => ?_, fun c => ?_⟩
    · dsimp only
      rw [u4 c, nk (sd j) (by omega)]
    · dsimp only
      rw [u5 c, nk u (by omega)]
end
section
/-- the sum of z over the c in [lo, lo + k) with d c = s -/
def dc_ss (d : Nat → Nat) (z : Nat → Int) (s lo : Nat) : Nat → Int
  | 0 => 0
  | k + 1 => dc_ss d z s lo k + (if d (lo + k) = s then z (lo + k) else 0)
theorem dc_ss_ext {d : Nat → Nat} {z z' : Nat → Int} {s lo : Nat} : ∀ k, (∀ c, lo ≤ c → c < lo + k → z' c = z c) → dc_ss d z' s lo k = dc_ss d z s lo k := by
  intro k
  induction k with
  | zero => intro _; rfl
  | succ k ih =>
    intro h
    show dc_ss d z' s lo k + (if d (lo + k) = s then z' (lo + k) else 0) = dc_ss d z s lo k + (if d (lo + k) = s then z (lo + k) else 0)
    rw [ih (fun c a b => h c a (by omega)), h (lo + k) (by omega) (by omega)]
theorem dc_ss_bot {d : Nat → Nat} {z : Nat → Int} {s lo : Nat} : ∀ k, dc_ss d z s lo (k + 1) = (if d lo = s then z lo else 0) + dc_ss d z s (lo + 1) k := by
  intro k
  induction k with
  | zero =>
    show (0 : Int) + (if d (lo + 0) = s then z (lo + 0) else 0) = (if d lo = s then z lo else 0) + 0
    rw [Nat.add_zero]
    omega
  | succ k ih =>
    show dc_ss d z s lo (k + 1) + (if d (lo + (k + 1)) = s then z (lo + (k + 1)) else 0) = (if d lo = s then z lo else 0) + (dc_ss d z s (lo + 1) k + (if d (lo + 1 + k) = s then z (lo + 1 + k) else 0))
    rw [ih, show lo + (k + 1) = lo + 1 + k by omega]
    omega
theorem dc_ss_split {d : Nat → Nat} {z : Nat → Int} {s lo a : Nat} : ∀ b, dc_ss d z s lo (a + b) = dc_ss d z s lo a + dc_ss d z s (lo + a) b := by
  intro b
  induction b with
  | zero =>
    show dc_ss d z s lo a = dc_ss d z s lo a + 0
    omega
  | succ b ih =>
    show dc_ss d z s lo (a + b) + (if d (lo + (a + b)) = s then z (lo + (a + b)) else 0) = dc_ss d z s lo a + (dc_ss d z s (lo + a) b + (if d (lo + a + b) = s then z (lo + a + b) else 0))
    rw [ih, show lo + (a + b) = lo + a + b by omega]
    omega
theorem dc_ss_pos {d : Nat → Nat} {z : Nat → Int} {s lo : Nat} : ∀ k, (∀ c, lo ≤ c → c < lo + k → 0 ≤ z c) → 0 ≤ dc_ss d z s lo k := by
  intro k
  induction k with
  | zero => intro _; exact Int.le_refl 0
  | succ k ih =>
    intro h
    show 0 ≤ dc_ss d z s lo k + (if d (lo + k) = s then z (lo + k) else 0)
    have h1 := ih (fun c a b => h c a (by omega))
    have h2 := h (lo + k) (by omega) (by omega)
    by_cases e : d (lo + k) = s
    · rw [if_pos e]; omega
    · rw [if_neg e]; omega
/-- a child's stretch lies within the sum -/
theorem dc_ss_in {d : Nat → Nat} {z : Nat → Int} {s lo j : Nat} {k : Nat} (h1 : lo ≤ j) (h2 : j < lo + k) (hz : ∀ c, lo ≤ c → c < lo + k → 0 ≤ z c) (hd : d j = s) :
    dc_ss d z s lo (j - lo) + z j ≤ dc_ss d z s lo k := by
  have e : k = (j - lo) + ((k - (j - lo) - 1) + 1) := by omega
  have q : dc_ss d z s lo k = dc_ss d z s lo (j - lo) + dc_ss d z s (lo + (j - lo)) ((k - (j - lo) - 1) + 1) := by
    rw [← dc_ss_split, ← e]
  rw [q, dc_ss_bot, show lo + (j - lo) = j by omega, if_pos hd]
  have := dc_ss_pos (d := d) (z := z) (s := s) (lo := j + 1) (k - (j - lo) - 1) (fun c a b => hz c (by omega) (by omega))
  omega
/-- the tree laid out: z the sizes, en the places -/
def dc_Ly (r : Nat) (d : Nat → Nat) (z en : Nat → Int) : Prop :=
  (∀ s, s < r → 1 ≤ z s ∧ z s = 1 + dc_ss d z s 1 (r - 1)) ∧ en 0 = 0 ∧
  ∀ j, 0 < j → j < r → d j < j ∧ en j = en (d j) + 1 + dc_ss d z (d j) 1 (j - 1)
theorem dc_ly_in {r : Nat} {d : Nat → Nat} {z en : Nat → Int} (h : dc_Ly r d z en) {j : Nat} (h0 : 0 < j) (hj : j < r) : en (d j) < en j ∧ en j + z j ≤ en (d j) + z (d j) := by
  obtain ⟨h1, h2, h3⟩ := h
  obtain ⟨q1, q2⟩ := h3 j h0 hj
  have zp : ∀ c, 1 ≤ c → c < 1 + (r - 1) → 0 ≤ z c := fun c a b => by have := (h1 c (by omega)).1; omega
  have k1 := dc_ss_in (d := d) (z := z) (s := d j) (lo := 1) (j := j) (k := r - 1) (by omega) (by omega) zp rfl
  have k2 := dc_ss_pos (d := d) (z := z) (s := d j) (lo := 1) (j - 1) (fun c a b => zp c a (by omega))
  have k3 := (h1 (d j) (by omega)).2
  constructor
  · omega
  · omega
theorem dc_ly_sib {r : Nat} {d : Nat → Nat} {z en : Nat → Int} (h : dc_Ly r d z en) {c v : Nat} (h0 : 0 < c) (hcv : c < v) (hv : v < r) (e : d c = d v) : en c + z c ≤ en v := by
  obtain ⟨h1, h2, h3⟩ := h
  obtain ⟨q1, q2⟩ := h3 c h0 (by omega)
  obtain ⟨q3, q4⟩ := h3 v (by omega) hv
  have k1 := dc_ss_in (d := d) (z := z) (s := d v) (lo := 1) (j := c) (k := v - 1) (by omega) (by omega) (fun c a b => by have := (h1 c (by omega)).1; omega) e
  rw [e] at q2
  omega
/-- u is v or above it in the tree d -/
def dc_Da (r : Nat) (d : Nat → Nat) (u v : Nat) : Prop := dc_Rp (fun a b => 0 < b ∧ b < r ∧ d b = a) (fun _ => True) u v
theorem dc_da_up {r : Nat} {d : Nat → Nat} {u v : Nat} (h : dc_Da r d u v) : v = u ∨ (0 < v ∧ v < r ∧ dc_Da r d u (d v)) :=
  dc_rp_ind (fun v => v = u ∨ (0 < v ∧ v < r ∧ dc_Da r d u (d v))) h (Or.inl rfl) (fun x y hx _ e _ => Or.inr ⟨e.1, e.2.1, by rw [e.2.2]; exact hx⟩)
theorem dc_da_dn {r : Nat} {d : Nat → Nat} {u v : Nat} (h : dc_Da r d u v) : v = u ∨ ∃ c, 0 < c ∧ c < r ∧ d c = u ∧ dc_Da r d c v := by
  refine dc_rp_ind (fun v => v = u ∨ ∃ c, 0 < c ∧ c < r ∧ d c = u ∧ dc_Da r d c v) h (Or.inl rfl) (fun x y _ ix e _ => Or.inr ?_)
  rcases ix with q | ⟨c, c1, c2, c3, c4⟩
  · exact ⟨y, e.1, e.2.1, by rw [e.2.2, q], dc_rp_refl⟩
  · exact ⟨c, c1, c2, c3, dc_rp_snoc c4 e trivial⟩
theorem dc_da_in {r : Nat} {d : Nat → Nat} {z en : Nat → Int} (L : dc_Ly r d z en) {u v : Nat} (h : dc_Da r d u v) : u ≤ v ∧ en u ≤ en v ∧ en v + z v ≤ en u + z u := by
  refine dc_rp_ind (fun v => u ≤ v ∧ en u ≤ en v ∧ en v + z v ≤ en u + z u) h ⟨Nat.le_refl _, Int.le_refl _, Int.le_refl _⟩ (fun x y _ ix e _ => ?_)
  have k1 := (L.2.2 y e.1 e.2.1).1
  have k2 := dc_ly_in L e.1 e.2.1
  rw [e.2.2] at k1 k2
  omega
theorem dc_lam {r : Nat} {d : Nat → Nat} {z en : Nat → Int} (L : dc_Ly r d z en) : ∀ v, v < r → ∀ u, u < v → dc_Da r d u v ∨ en u + z u ≤ en v ∨ en v + z v ≤ en u := by
  intro v
  induction v using Nat.strongRecOn with
  | ind v ih =>
    intro hv u hu
    have h0 : 0 < v := by omega
    obtain ⟨k1, k2⟩ := L.2.2 v h0 hv
    obtain ⟨k3, k4⟩ := dc_ly_in L h0 hv
    have zv := (L.1 v hv).1
    have edge : dc_Da r d (d v) v := dc_rp_snoc dc_rp_refl ⟨h0, hv, rfl⟩ trivial
    rcases Nat.lt_or_ge u (d v) with c | c
    · rcases ih (d v) k1 (by omega) u c with q | q | q
      · exact Or.inl (dc_rp_trans q edge)
      · exact Or.inr (Or.inl (by omega))
      · exact Or.inr (Or.inr (by omega))
    · by_cases e : u = d v
      · rw [e]; exact Or.inl edge
      · rcases ih u hu (by omega) (d v) (by omega) with q | q | q
        · rcases dc_da_dn q with q2 | ⟨x, x1, x2, x3, x4⟩
          · exact absurd q2 e
          · obtain ⟨y1, y2, y3⟩ := dc_da_in L x4
            have := dc_ly_sib L x1 (show x < v by omega) hv x3
            exact Or.inr (Or.inl (by omega))
        · exact Or.inr (Or.inr (by omega))
        · exact Or.inr (Or.inl (by omega))
theorem dc_over {r : Nat} {d : Nat → Nat} {z en : Nat → Int} (L : dc_Ly r d z en) {u v : Nat} (hu : u < r) (hv : v < r) : (en u ≤ en v ∧ en v < en u + z u) ↔ dc_Da r d u v := by
  have zu := (L.1 u hu).1
  have zv := (L.1 v hv).1
  constructor
  · intro h
    rcases Nat.lt_or_ge u v with c | c
    · rcases dc_lam L v hv u c with q | q | q
      · exact q
      · omega
      · omega
    · by_cases e : u = v
      · rw [e]; exact dc_rp_refl
      · rcases dc_lam L u hu v (by omega) with q | q | q
        · rcases dc_da_dn q with q2 | ⟨x, x1, x2, x3, x4⟩
          · exact absurd q2 e
          · have y1 := dc_da_in L x4
            have y2 := dc_ly_in L x1 x2
            rw [x3] at y2
            omega
        · omega
        · omega
  · intro h
    have := dc_da_in L h
    omega
theorem dc_over_up {r : Nat} {d : Nat → Nat} {z en : Nat → Int} (L : dc_Ly r d z en) {u v : Nat} (hu : u < r) (h0 : 0 < v) (hv : v < r) :
    (en u ≤ en v ∧ en v < en u + z u) ↔ (u = v ∨ (en u ≤ en (d v) ∧ en (d v) < en u + z u)) := by
  have k1 := (L.2.2 v h0 hv).1
  rw [dc_over L hu hv, dc_over L hu (show d v < r by omega)]
  constructor
  · intro h
    rcases dc_da_up h with q | q
    · exact Or.inl q.symm
    · exact Or.inr q.2.2
  · intro h
    rcases h with q | q
    · rw [q]; exact dc_rp_refl
    · exact dc_rp_snoc q ⟨h0, hv, rfl⟩ trivial
end
section
theorem dc_at_n {n r i k : Nat} {at' : Nat → Nat} {a : Nat → Int32} {x : Int32} (A : dc_At n r at') (hi : i < r) (hk : k < r) (ne : i ≠ k) : (upd a (at' k) x (at' i)).toInt = (a (at' i)).toInt := by
  rw [pk_un (fun z => ne (A.2.2.2 i k hi hk z))]
theorem dc_at_s {a : Nat → Int32} {k : Nat} {x : Int32} : (upd a k x k).toInt = x.toInt := by rw [pk_us]
theorem dc_ss_top {d : Nat → Nat} {z : Nat → Int} {s i : Nat} (hi : 0 < i) : dc_ss d z s 1 i = dc_ss d z s 1 (i - 1) + (if d i = s then z i else 0) := by
  obtain ⟨k, rfl⟩ : ∃ k, i = k + 1 := ⟨i - 1, by omega⟩
  show dc_ss d z s 1 k + (if d (1 + k) = s then z (1 + k) else 0) = _
  rw [show 1 + k = k + 1 by omega]
  rfl
theorem dc_ly148 {post : St2 → Prop} {gn ge gr gc gq gf : Int32} {a1 a2 a3 a4 a5 a6 a8 a9 a10 a11 a12 a13 a14 a15 a16 a17 a18 a19 a21 a22 a23 a24 : Nat → Int32} {n r : Nat} {at' d : Nat → Nat} {z : Nat → Int} (A : dc_At n r at') (hr : gr.toInt = (r : Int)) (r0 : 0 < r)
    (h10 : ∀ i, i < r → (a10 i).toInt = (at' i : Int)) (h17 : ∀ i, 0 < i → i < r → d i < i ∧ (a17 (at' i)).toInt = (at' (d i) : Int))
    (h19 : ∀ j, j < r → (a19 (at' j)).toInt = z j) (hz : ∀ s, s < r → 1 ≤ z s ∧ z s = 1 + dc_ss d z s 1 (r - 1)) (hz0 : z 0 ≤ 16777216)
    (K : ∀ a7 a20 en, (∀ j, j < r → (a20 (at' j)).toInt = en j) → dc_Ly r d z en → (∀ j, j < r → 0 ≤ en j ∧ en j + z j ≤ 16777216) → post (gn, ge, gr, gc, gq, gf, a1, a2, a3, a4, a5, a6, a7, a8, a9, a10, a11, a12, a13, a14, a15, a16, a17, a18, a19, a20, a21, a22, a23, a24)) :
    ∀ (k i : Nat) (x1 : Int32) (a7 a20 : Nat → Int32), i + k = r → 0 < i → x1.toInt = (i : Int) → (∀ s, s < r → (a7 (at' s)).toInt = 1 + dc_ss d z s 1 (i - 1)) → (a20 (at' 0)).toInt = 0 →
      (∀ j, 0 < j → j < i → (a20 (at' j)).toInt = (a20 (at' (d j))).toInt + 1 + dc_ss d z (d j) 1 (j - 1)) → (∀ j, j < i → 0 ≤ (a20 (at' j)).toInt ∧ (a20 (at' j)).toInt + z j ≤ z 0) →
      wX_layOut_148 post gn ge gr gc gq gf (k + 1) x1 a1 a2 a3 a4 a5 a6 a7 a8 a9 a10 a11 a12 a13 a14 a15 a16 a17 a18 a19 a20 a21 a22 a23 a24 := by
  obtain ⟨A1, A2, A3, A4⟩ := id A
  intro k
  induction k with
  | zero =>
    intro i x1 a7 a20 hk hi hx hc h0 he hb
    refine br_t (dc_le.mpr (by omega)) (K a7 a20 (fun j => (a20 (at' j)).toInt) (fun j _ => rfl) ⟨hz, h0, fun j j0 jr => ⟨(h17 j j0 jr).1, he j j0 (by omega)⟩⟩ (fun j hj => ?_))
    have := hb j (by omega)
    omega
  | succ k ih =>
    intro i x1 a7 a20 hk hi hx hc h0 he hb
    refine br_f (fun z => by rw [dc_le] at z; omega) ?_
    rw [dc_cl hx]
    have hir : i < r := by omega
    have ai := A3 i hir
    obtain ⟨di, d17⟩ := h17 i hi hir
    have ad := A3 (d i) (by omega)
    refine ⟨dc_in hx (by omega), fun x2 e2 => ?_⟩
    have h2 : x2.toInt = (at' i : Int) := by rw [e2]; exact h10 i hir
    have v2 : vp_in x2 24 := dc_in h2 (by omega)
    rw [dc_cl h2]
    refine ⟨v2, fun x3 e3 => ?_⟩
    have h3 : x3.toInt = (at' (d i) : Int) := by rw [e3]; exact d17
    have v3 : vp_in x3 24 := dc_in h3 (by omega)
    rw [dc_cl h3]
    refine ⟨v3, v3, v2, fun b20 e20 => ⟨v3, v2, v3, fun b7 e7 => fun y ey => ?_⟩⟩
    have c1 := hc (d i) (by omega)
    have zi := h19 i hir
    have b1 := hb (d i) (by omega)
    have zp : ∀ c, 1 ≤ c → c < 1 + (r - 1) → 0 ≤ z c := fun c a b => by have := (hz c (by omega)).1; omega
    have k1 := dc_ss_in (d := d) (z := z) (s := d i) (lo := 1) (j := i) (k := r - 1) (by omega) (by omega) zp rfl
    have k2 := dc_ss_pos (d := d) (z := z) (s := d i) (lo := 1) (i - 1) (fun c a b => zp c a (by omega))
    have k3 := (hz (d i) (by omega)).2
    have k4 := (hz i hir).1
    have w1 : ((a20 (at' (d i))) + (a7 (at' (d i)))).toInt = (a20 (at' (d i))).toInt + (1 + dc_ss d z (d i) 1 (i - 1)) := dc_add (by rw [c1]) (by omega) (by omega)
    have w2 : ((a7 (at' (d i))) + (a19 (at' i))).toInt = 1 + dc_ss d z (d i) 1 (i - 1) + z i := dc_add (by rw [c1, zi]) (by omega) (by omega)
    subst e20 e7 ey
    have s20 : ∀ j, j < i → (upd a20 (at' i) ((a20 (at' (d i))) + (a7 (at' (d i)))) (at' j)).toInt = (a20 (at' j)).toInt := fun j hj => dc_at_n A (by omega) hir (by omega)
    refine ih (i + 1) _ _ _ (by omega) (by omega) (dc_inc hx (by omega)) (fun s hs => ?_) ?_ (fun j j0 jr => ?_) (fun j hj => ?_)
    · rw [show i + 1 - 1 = i by omega, dc_ss_top hi]
      by_cases e : s = d i
      · rw [e, dc_at_s, w2, if_pos rfl]
        omega
      · rw [dc_at_n A hs (by omega) e, hc s hs, if_neg (fun q => e q.symm)]
        omega
    · rw [s20 0 hi]; exact h0
    · by_cases e : j = i
      · rw [e, dc_at_s, w1, s20 (d i) di]
        omega
      · have := (h17 j j0 (by omega)).1
        rw [s20 j (by omega), s20 (d j) (by omega)]
        exact he j j0 (by omega)
    · by_cases e : j = i
      · rw [e, dc_at_s, w1]
        omega
      · rw [s20 j (by omega)]
        exact hb j (by omega)
theorem dc_ly125 {post : St2 → Prop} {gn ge gr gc gq gf : Int32} {a1 a2 a3 a4 a5 a6 a8 a9 a10 a11 a12 a13 a14 a15 a16 a17 a18 a19 a20 a21 a22 a23 a24 : Nat → Int32} {n r : Nat} {at' d : Nat → Nat} {z : Nat → Int} (A : dc_At n r at') (hn : gn.toInt = (n : Int)) (hr : gr.toInt = (r : Int)) (r0 : 0 < r)
    (h10 : ∀ i, i < r → (a10 i).toInt = (at' i : Int)) (h17 : ∀ i, 0 < i → i < r → d i < i ∧ (a17 (at' i)).toInt = (at' (d i) : Int))
    (h19 : ∀ j, j < r → (a19 (at' j)).toInt = z j) (hz : ∀ s, s < r → 1 ≤ z s ∧ z s = 1 + dc_ss d z s 1 (r - 1)) (hz0 : z 0 ≤ 16777216) (h20 : (a20 (at' 0)).toInt = 0)
    (K : ∀ a7 a20 en, (∀ j, j < r → (a20 (at' j)).toInt = en j) → dc_Ly r d z en → (∀ j, j < r → 0 ≤ en j ∧ en j + z j ≤ 16777216) → post (gn, ge, gr, gc, gq, gf, a1, a2, a3, a4, a5, a6, a7, a8, a9, a10, a11, a12, a13, a14, a15, a16, a17, a18, a19, a20, a21, a22, a23, a24)) :
    ∀ (k i : Nat) (x1 : Int32) (a7 : Nat → Int32), i + k = n → x1.toInt = (i : Int) → (∀ v, v < i → (a7 v).toInt = 1) → wX_layOut_125 post gn ge gr gc gq gf (k + 1) x1 a1 a2 a3 a4 a5 a6 a7 a8 a9 a10 a11 a12 a13 a14 a15 a16 a17 a18 a19 a20 a21 a22 a23 a24 := by
  obtain ⟨A1, A2, A3, A4⟩ := id A
  intro k
  induction k with
  | zero =>
    intro i x1 a7 hk hx h
    refine br_t (dc_le.mpr (by omega)) ⟨r - 1 + 1, ?_⟩
    refine dc_ly148 A hr r0 h10 h17 h19 hz hz0 K (r - 1) 1 1 a7 a20 (by omega) (by omega) dc_i1' (fun s hs => ?_) h20 (fun j j0 jr => absurd j0 (by omega)) (fun j hj => ?_)
    · rw [h (at' s) (by have := A3 s hs; omega)]
      rfl
    · have : j = 0 := by omega
      rw [this, h20]
      omega
  | succ k ih =>
    intro i x1 a7 hk hx h
    refine br_f (fun z => by rw [dc_le] at z; omega) ?_
    rw [dc_cl hx]
    refine ⟨dc_in hx (by omega), fun b7 e7 => fun y ey => ?_⟩
    subst e7 ey
    refine ih (i + 1) _ _ (by omega) (dc_inc hx (by omega)) (fun v hv => ?_)
    by_cases z : v = i
    · rw [z, pk_us]; exact dc_i1
    · rw [pk_un z]; exact h v (by omega)
/-- how large a size may be at step i -/
def dc_b (i : Nat) : Nat := 2 ^ (24 - i)
theorem dc_b_le (i : Nat) : dc_b i ≤ 16777216 := by
  have : dc_b i ≤ 2 ^ 24 := Nat.pow_le_pow_right (by omega) (by omega)
  have e : (2 : Nat) ^ 24 = 16777216 := by decide
  omega
theorem dc_b_pos (i : Nat) : 1 ≤ dc_b i := Nat.one_le_two_pow
theorem dc_b_step {i : Nat} (h : i < 24) : dc_b i = 2 * dc_b (i + 1) := by
  unfold dc_b
  rw [show 24 - i = (24 - (i + 1)) + 1 by omega, Nat.pow_succ]
  omega
theorem dc_ly79 {post : St2 → Prop} {gn ge gr gc gq gf : Int32} {a1 a2 a3 a4 a5 a6 a7 a8 a9 a10 a11 a12 a13 a14 a15 a16 a17 a18 a20 a21 a22 a23 a24 : Nat → Int32} {n r : Nat} {at' d : Nat → Nat} (A : dc_At n r at') (hn : gn.toInt = (n : Int)) (hr : gr.toInt = (r : Int)) (r0 : 0 < r) (at0 : at' 0 = 0)
    (h10 : ∀ i, i < r → (a10 i).toInt = (at' i : Int)) (h17 : ∀ i, 0 < i → i < r → d i < i ∧ (a17 (at' i)).toInt = (at' (d i) : Int))
    (K : ∀ a7 a19 a20 z en, (∀ j, j < r → (a19 (at' j)).toInt = z j ∧ (a20 (at' j)).toInt = en j) → dc_Ly r d z en → (∀ j, j < r → 0 ≤ en j ∧ en j + z j ≤ 16777216) → post (gn, ge, gr, gc, gq, gf, a1, a2, a3, a4, a5, a6, a7, a8, a9, a10, a11, a12, a13, a14, a15, a16, a17, a18, a19, a20, a21, a22, a23, a24)) :
    ∀ (i : Nat) (x1 : Int32) (a19 : Nat → Int32) (z : Nat → Int), x1.toInt = (i : Int) → i < r → (∀ j, j < r → (a19 (at' j)).toInt = z j) →
      (∀ s, s < r → 1 ≤ z s ∧ z s ≤ (dc_b i : Int) ∧ z s = 1 + dc_ss d z s (i + 1) (r - 1 - i)) → wX_layOut_79 post gn ge gr gc gq gf (i + 1) x1 a1 a2 a3 a4 a5 a6 a7 a8 a9 a10 a11 a12 a13 a14 a15 a16 a17 a18 a19 a20 a21 a22 a23 a24 := by
  obtain ⟨A1, A2, A3, A4⟩ := id A
  intro i
  induction i with
  | zero =>
    intro x1 a19 z hx hi h19 hz
    refine br_t (dc_le.mpr (by rw [hx, dc_i0]; omega)) (fun b20 e20 => ⟨n + 1, ?_⟩)
    have b0 := dc_b_le 0
    refine dc_ly125 A hn hr r0 h10 h17 h19 (fun s hs => ⟨(hz s hs).1, (hz s hs).2.2⟩) (by have := (hz 0 r0).2.1; omega) ?_ (fun a7 a20 en h1 h2 h3 => K a7 a19 a20 z en (fun j hj => ⟨h19 j hj, h1 j hj⟩) h2 h3) n 0 0 a7 (by omega) dc_i0' (fun v hv => absurd hv (by omega))
    rw [e20, at0, pk_us]
    exact dc_i0
  | succ i ih =>
    intro x1 a19 z hx hi h19 hz
    refine br_f (fun q => by rw [dc_le, hx, dc_i0] at q; omega) ?_
    rw [dc_cl hx]
    have ai := A3 _ hi
    obtain ⟨di, d17⟩ := h17 (i + 1) (by omega) hi
    have ad := A3 (d (i + 1)) (by omega)
    refine ⟨dc_in hx (by omega), fun x2 e2 => ?_⟩
    have h2 : x2.toInt = (at' (i + 1) : Int) := by rw [e2]; exact h10 _ hi
    have v2 : vp_in x2 24 := dc_in h2 (by omega)
    rw [dc_cl h2, dc_cl d17]
    have v3 : vp_in (a17 (at' (i + 1))) 24 := dc_in d17 (by omega)
    refine ⟨v2, v3, v2, v3, fun b19 e19 => fun y ey => ?_⟩
    have q1 := hz (d (i + 1)) (by omega)
    have q2 := hz (i + 1) hi
    have b1 := dc_b_step (show i < 24 by omega)
    have b2 := dc_b_le i
    have w1 : ((a19 (at' (d (i + 1)))) + (a19 (at' (i + 1)))).toInt = z (d (i + 1)) + z (i + 1) := dc_add (by rw [h19 _ (by omega), h19 _ hi]) (by omega) (by omega)
    subst e19 ey
    refine ih _ _ (dc_iu z (d (i + 1)) (z (d (i + 1)) + z (i + 1))) (dc_add (by rw [hx, dc_im1]; omega) (by omega) (by omega)) (by omega) (fun j hj => ?_) (fun s hs => ?_)
    · by_cases e : j = d (i + 1)
      · rw [e, dc_at_s, dc_iu_s]; exact w1
      · rw [dc_at_n A hj (by omega) e, dc_iu_n e]; exact h19 j hj
    · have ex : dc_ss d (dc_iu z (d (i + 1)) (z (d (i + 1)) + z (i + 1))) s (i + 1 + 1) (r - 1 - (i + 1)) = dc_ss d z s (i + 1 + 1) (r - 1 - (i + 1)) :=
        dc_ss_ext _ (fun c a b => dc_iu_n (by omega))
      rw [show r - 1 - i = (r - 1 - (i + 1)) + 1 by omega, dc_ss_bot, ex, dc_iu_n (show i + 1 ≠ d (i + 1) by omega)]
      have q3 := hz s hs
      by_cases e : s = d (i + 1)
      · rw [e, dc_iu_s, if_pos rfl]
        rw [e] at q3
        omega
      · rw [dc_iu_n e, if_neg (fun q => e q.symm)]
        omega
theorem dc_ly32 {post : St2 → Prop} {gn ge gr gc gq gf : Int32} {a1 a2 a3 a4 a5 a6 a7 a8 a9 a10 a11 a12 a13 a14 a15 a16 a17 a19 a20 a21 a22 a23 a24 : Nat → Int32} {n r : Nat} {at' d : Nat → Nat} (A : dc_At n r at') (hn : gn.toInt = (n : Int)) (hr : gr.toInt = (r : Int)) (r0 : 0 < r) (at0 : at' 0 = 0)
    (h10 : ∀ i, i < r → (a10 i).toInt = (at' i : Int)) (h17 : ∀ i, 0 < i → i < r → d i < i ∧ (a17 (at' i)).toInt = (at' (d i) : Int))
    (h19 : ∀ j, j < n → (a19 j).toInt = 1)
    (K : ∀ a7 a18 a19 a20 z en, (∀ j, j < r → (a19 (at' j)).toInt = z j ∧ (a20 (at' j)).toInt = en j) → dc_Ly r d z en → (∀ j, j < r → 0 ≤ en j ∧ en j + z j ≤ 16777216) → post (gn, ge, gr, gc, gq, gf, a1, a2, a3, a4, a5, a6, a7, a8, a9, a10, a11, a12, a13, a14, a15, a16, a17, a18, a19, a20, a21, a22, a23, a24)) :
    ∀ (k i : Nat) (x1 : Int32) (a18 : Nat → Int32), i + k = r → 0 < i → x1.toInt = (i : Int) → wX_layOut_32 post gn ge gr gc gq gf (k + 1) x1 a1 a2 a3 a4 a5 a6 a7 a8 a9 a10 a11 a12 a13 a14 a15 a16 a17 a18 a19 a20 a21 a22 a23 a24 := by
  obtain ⟨A1, A2, A3, A4⟩ := id A
  intro k
  induction k with
  | zero =>
    intro i x1 a18 hk hi hx
    refine br_t (dc_le.mpr (by omega)) (fun y ey => ⟨r - 1 + 1, ?_⟩)
    refine dc_ly79 A hn hr r0 at0 h10 h17 (fun a7 a19 a20 => K a7 a18 a19 a20) (r - 1) y a19 (fun _ => 1) ?_ (by omega) (fun j hj => h19 _ (A3 j hj)) (fun s hs => ?_)
    · rw [ey]
      exact dc_sub (by rw [hr, dc_i1]; omega) (by omega) (by omega)
    · have := dc_b_pos (r - 1)
      rw [show r - 1 - (r - 1) = 0 by omega]
      refine ⟨by omega, by omega, ?_⟩
      rfl
  | succ k ih =>
    intro i x1 a18 hk hi hx
    refine br_f (fun z => by rw [dc_le] at z; omega) ?_
    rw [dc_cl hx]
    have hir : i < r := by omega
    have ai := A3 i hir
    obtain ⟨di, d17⟩ := h17 i hi hir
    have ad := A3 (d i) (by omega)
    refine ⟨dc_in hx (by omega), fun x2 e2 => ?_⟩
    have h2 : x2.toInt = (at' i : Int) := by rw [e2]; exact h10 i hir
    have v2 : vp_in x2 24 := dc_in h2 (by omega)
    rw [dc_cl h2]
    refine ⟨v2, dc_in d17 (by omega), v2, fun b18 e18 => fun y ey => ?_⟩
    rw [ey]
    exact ih (i + 1) _ b18 (by omega) (by omega) (dc_inc hx (by omega))
theorem dc_ly9 {post : St2 → Prop} {gn ge gr gc gq gf : Int32} {a1 a2 a3 a4 a5 a6 a7 a8 a9 a10 a11 a12 a13 a14 a15 a16 a17 a18 a20 a21 a22 a23 a24 : Nat → Int32} {n r : Nat} {at' d : Nat → Nat} (A : dc_At n r at') (hn : gn.toInt = (n : Int)) (hr : gr.toInt = (r : Int)) (r0 : 0 < r) (at0 : at' 0 = 0)
    (h10 : ∀ i, i < r → (a10 i).toInt = (at' i : Int)) (h17 : ∀ i, 0 < i → i < r → d i < i ∧ (a17 (at' i)).toInt = (at' (d i) : Int))
    (K : ∀ a7 a18 a19 a20 z en, (∀ j, j < r → (a19 (at' j)).toInt = z j ∧ (a20 (at' j)).toInt = en j) → dc_Ly r d z en → (∀ j, j < r → 0 ≤ en j ∧ en j + z j ≤ 16777216) → post (gn, ge, gr, gc, gq, gf, a1, a2, a3, a4, a5, a6, a7, a8, a9, a10, a11, a12, a13, a14, a15, a16, a17, a18, a19, a20, a21, a22, a23, a24)) :
    ∀ (k i : Nat) (x1 : Int32) (a19 : Nat → Int32), i + k = n → x1.toInt = (i : Int) → (∀ v, v < i → (a19 v).toInt = 1) → wX_layOut_9 post gn ge gr gc gq gf (k + 1) x1 a1 a2 a3 a4 a5 a6 a7 a8 a9 a10 a11 a12 a13 a14 a15 a16 a17 a18 a19 a20 a21 a22 a23 a24 := by
  obtain ⟨A1, A2, A3, A4⟩ := id A
  intro k
  induction k with
  | zero =>
    intro i x1 a19 hk hx h
    exact br_t (dc_le.mpr (by omega)) ⟨r - 1 + 1, dc_ly32 A hn hr r0 at0 h10 h17 (fun j hj => h j (by omega)) K (r - 1) 1 1 a18 (by omega) (by omega) dc_i1'⟩
  | succ k ih =>
    intro i x1 a19 hk hx h
    refine br_f (fun z => by rw [dc_le] at z; omega) ?_
    rw [dc_cl hx]
    refine ⟨dc_in hx (by omega), fun b19 e19 => fun y ey => ?_⟩
    subst e19 ey
    refine ih (i + 1) _ _ (by omega) (dc_inc hx (by omega)) (fun v hv => ?_)
    by_cases z : v = i
    · rw [z, pk_us]; exact dc_i1
    · rw [pk_un z]; exact h v (by omega)
theorem dc_layOut {post : St2 → Prop} {gn ge gr gc gq gf : Int32} {a1 a2 a3 a4 a5 a6 a7 a8 a9 a10 a11 a12 a13 a14 a15 a16 a17 a18 a19 a20 a21 a22 a23 a24 : Nat → Int32} {n r : Nat} {at' d : Nat → Nat} (A : dc_At n r at') (hn : gn.toInt = (n : Int)) (hr : gr.toInt = (r : Int)) (r0 : 0 < r) (at0 : at' 0 = 0)
    (h10 : ∀ i, i < r → (a10 i).toInt = (at' i : Int)) (h17 : ∀ i, 0 < i → i < r → d i < i ∧ (a17 (at' i)).toInt = (at' (d i) : Int))
    (K : ∀ a7 a18 a19 a20 z en, (∀ j, j < r → (a19 (at' j)).toInt = z j ∧ (a20 (at' j)).toInt = en j) → dc_Ly r d z en → (∀ j, j < r → 0 ≤ en j ∧ en j + z j ≤ 16777216) → post (gn, ge, gr, gc, gq, gf, a1, a2, a3, a4, a5, a6, a7, a8, a9, a10, a11, a12, a13, a14, a15, a16, a17, a18, a19, a20, a21, a22, a23, a24)) :
    wpX_layOut post (gn, ge, gr, gc, gq, gf, a1, a2, a3, a4, a5, a6, a7, a8, a9, a10, a11, a12, a13, a14, a15, a16, a17, a18, a19, a20, a21, a22, a23, a24) := by
  unfold wpX_layOut
  intro b18 e18
  exact ⟨n + 1, dc_ly9 A hn hr r0 at0 h10 h17 K n 0 0 a19 (by omega) dc_i0' (fun v hv => absurd hv (by omega))⟩
end
section
theorem dc_rp_at {m r j : Nat} {T H at' : Nat → Nat} {P Q : Nat → Prop} (at0 : at' 0 = 0) (h : dc_Rp (dc_En m T H r at') P 0 j) (hPQ : ∀ k, k < r → P k → Q (at' k)) :
    dc_Rp (dc_Ed m T H) Q 0 (at' j) := by
  refine dc_rp_ind (fun k => dc_Rp (dc_Ed m T H) Q 0 (at' k)) h (by rw [at0]; exact dc_rp_refl) (fun x y _ ix e hy => dc_rp_snoc ix e.2.2 (hPQ y e.2.1 hy))
theorem dc_rp_num {n m r v : Nat} {T H at' p : Nat → Nat} {nu an pa : Nat → Int} {P Q : Nat → Prop} (dn : dc_Dn n m T H r at' p nu an pa) (hH : ∀ e, e < m → H e < n)
    (h : dc_Rp (dc_Ed m T H) Q 0 v) (hQP : ∀ k, k < r → Q (at' k) → P k) : ∃ j, j < r ∧ v = at' j ∧ dc_Rp (dc_En m T H r at') P 0 j := by
  refine dc_rp_ind (fun v => ∃ j, j < r ∧ v = at' j ∧ dc_Rp (dc_En m T H r at') P 0 j) h ⟨0, dn.1.1, dn.1.2.2.symm, dc_rp_refl⟩ (fun x y _ ix hxy hy => ?_)
  obtain ⟨j, j1, j2, j3⟩ := ix
  obtain ⟨e, e1, e2, e3⟩ := hxy
  have k1 := dn.2.2.2.2.2.2 j e j1 e1 (by rw [e2, j2])
  rw [e3] at k1
  rcases dn.2.2.1 y (by rw [← e3]; exact hH e e1) with q | ⟨k, q1, q2⟩
  · omega
  · subst q2
    exact ⟨k, q1, rfl, dc_rp_snoc j3 ⟨j1, q1, e, e1, by rw [e2, j2], e3⟩ (hQP k q1 hy)⟩
theorem dc_av_at {n m r i j : Nat} {T H at' p : Nat → Nat} {nu an pa : Nat → Int} (dn : dc_Dn n m T H r at' p nu an pa) (hH : ∀ e, e < m → H e < n) (hi : i < r) (hj : j < r) :
    dc_Av (dc_Ed m T H) (at' i) (at' j) ↔ dc_Av (dc_En m T H r at') i j := by
  have at0 := dn.1.2.2
  have i0 : at' i ≠ 0 ↔ i ≠ 0 := by
    constructor
    · intro h e
      exact h (by rw [e]; exact at0)
    · intro h e
      exact h (dc_dn_inj dn hi dn.1.1 (by rw [e, at0]))
  constructor
  · intro h
    refine ⟨i0.mp h.1, ?_⟩
    obtain ⟨j', j1, j2, j3⟩ := dc_rp_num (P := fun q => q ≠ i) dn hH h.2 (fun k hk q e => q (by rw [e]))
    rw [dc_dn_inj dn hj j1 j2]
    exact j3
  · intro h
    exact ⟨i0.mpr h.1, dc_rp_at at0 h.2 (fun k hk q e => q (dc_dn_inj dn hk hi e))⟩
/-- all that is worked out after a change -/
def dc_Fr (n m : Nat) (T H : Nat → Nat) (gr : Int32) (a3 a4 a9 a17 a19 a20 : Nat → Int32) : Prop :=
  dc_Ch n m T (dc_ti a3) (dc_ti a4) 0 ∧
  gr.toInt = (dc_cn (fun v => 0 ≤ (a9 v).toInt) n : Int) ∧
  (a9 0).toInt = 0 ∧
  (∀ v, v < n → v ≠ 0 → 0 ≤ (a9 v).toInt → 0 < (a9 v).toInt) ∧
  (∀ v, v < n → 0 ≤ (a9 v).toInt → dc_Rp (dc_Ed m T H) (fun _ => True) 0 v) ∧
  (∀ v, v < n → 0 ≤ (a9 v).toInt → 0 ≤ (a20 v).toInt ∧ 1 ≤ (a19 v).toInt ∧ (a20 v).toInt + (a19 v).toInt ≤ 16777216) ∧
  (∀ v, v < n → v ≠ 0 → 0 ≤ (a9 v).toInt → ∃ d, d < n ∧ (a17 v).toInt = (d : Int) ∧ d ≠ v ∧ 0 ≤ (a9 d).toInt ∧ dc_Av (dc_Ed m T H) v d ∧
    (∀ u, dc_Av (dc_Ed m T H) u v ↔ (u ≠ v ∧ dc_Av (dc_Ed m T H) u d)) ∧
    ∀ u, u < n → 0 ≤ (a9 u).toInt → (((a20 u).toInt ≤ (a20 v).toInt ∧ (a20 v).toInt < (a20 u).toInt + (a19 u).toInt) ↔
      (u = v ∨ ((a20 u).toInt ≤ (a20 d).toInt ∧ (a20 d).toInt < (a20 u).toInt + (a19 u).toInt))))
theorem dc_fr_mk {n m r : Nat} {T H at' p sd dd : Nat → Nat} {gr : Int32} {a3 a4 a9 a10 a11 a17 a19 a20 : Nat → Int32} {z en : Nat → Int} (hH : ∀ e, e < m → H e < n) (hc : dc_Ch n m T (dc_ti a3) (dc_ti a4) 0)
    (hr : gr.toInt = (r : Int)) (dn : dc_Dn n m T H r at' p (dc_ti a9) (dc_ti a10) (dc_ti a11)) (hS : ∀ w, 0 < w → w < r → dc_Sd (dc_En m T H r at') p sd w)
    (hI : ∀ w, 0 < w → w < r → dc_Id p sd dd w ∧ dc_ti a17 (at' w) = (at' (dd w) : Int)) (hz : ∀ j, j < r → (a19 (at' j)).toInt = z j ∧ (a20 (at' j)).toInt = en j) (L : dc_Ly r dd z en)
    (hb : ∀ j, j < r → 0 ≤ en j ∧ en j + z j ≤ 16777216) : dc_Fr n m T H gr a3 a4 a9 a17 a19 a20 := by
  have at0 := dn.1.2.2
  have Tr := dc_dn_tr dn
  have num : ∀ v, v < n → 0 ≤ (a9 v).toInt → ∃ i, i < r ∧ v = at' i := fun v hv h => by
    rcases dn.2.2.1 v hv with q | q
    · unfold dc_ti at q
      omega
    · exact q
  have nui : ∀ i, i < r → (a9 (at' i)).toInt = (i : Int) := fun i hi => (dn.2.1 i hi).2.1
  have tree : ∀ j, j < r → dc_Rp (dc_En m T H r at') (fun _ => True) 0 j := fun j hj => dc_rp_mono (dc_tp Tr j hj (dc_an_zero p j)) (fun _ _ => trivial)
  refine ⟨hc, ?_, ?_, fun v hv h0 h => ?_, fun v hv h => ?_, fun v hv h => ?_, fun v hv h0 h => ?_⟩
  · rw [hr]
    have e := dc_cn_map (n := n) (f := at') r (fun v => 0 ≤ (a9 v).toInt) (fun i j hij hj q => by have := dc_dn_inj dn (show i < r by omega) hj q; omega) (fun i hi => (dn.2.1 i hi).1) (fun u hu h => by
      obtain ⟨k, k1, k2⟩ := num u hu h
      exact ⟨k, k1, k2.symm⟩)
    rw [e, dc_cn_all (fun i hi => by rw [nui i hi]; omega)]
  · have := nui 0 dn.1.1
    rw [at0] at this
    exact this
  · obtain ⟨i, i1, i2⟩ := num v hv h
    subst i2
    have : i ≠ 0 := fun e => h0 (by rw [e]; exact at0)
    rw [nui i i1]
    omega
  · obtain ⟨i, i1, i2⟩ := num v hv h
    subst i2
    exact dc_rp_at at0 (tree i i1) (fun _ _ _ => trivial)
  · obtain ⟨i, i1, i2⟩ := num v hv h
    subst i2
    obtain ⟨q1, q2⟩ := hz i i1
    rw [q1, q2]
    have := hb i i1
    have := (L.1 i i1).1
    omega
  · obtain ⟨i, i1, i2⟩ := num v hv h
    subst i2
    have i0 : 0 < i := by
      rcases Nat.eq_zero_or_pos i with e | e
      · exact absurd (by rw [e]; exact at0) h0
      · exact e
    obtain ⟨d1, d2, d3⟩ := dc_dom Tr hS (fun w a b => (hI w a b).1) i0 i1
    have dr : dd i < r := by omega
    refine ⟨at' (dd i), (dn.2.1 _ dr).1, (hI i i0 i1).2, fun e => ?_, by rw [nui _ dr]; omega, (dc_av_at dn hH i1 dr).mpr d2, fun u => ?_, fun u hu hnu => ?_⟩
    · have := dc_dn_inj dn dr i1 e
      omega
    · by_cases hu : ∃ k, k < r ∧ u = at' k
      · obtain ⟨k, k1, k2⟩ := hu
        subst k2
        rw [dc_av_at dn hH k1 i1, dc_av_at dn hH k1 dr, d3 k]
        constructor
        · intro q
          exact ⟨fun e => q.1 (dc_dn_inj dn k1 i1 e), q.2⟩
        · intro q
          exact ⟨fun e => q.1 (by rw [e]), q.2⟩
      · have all : ∀ j, j < r → dc_Av (dc_Ed m T H) u (at' j) := fun j hj =>
          ⟨fun e => hu ⟨0, dn.1.1, by rw [e, at0]⟩, dc_rp_at at0 (tree j hj) (fun k hk _ e => hu ⟨k, hk, e.symm⟩)⟩
        exact ⟨fun _ => ⟨fun e => hu ⟨i, i1, e⟩, all _ dr⟩, fun _ => all _ i1⟩
    · obtain ⟨k, k1, k2⟩ := num u hu hnu
      subst k2
      rw [(hz k k1).1, (hz k k1).2, (hz i i1).2, (hz _ dr).2, dc_over_up L k1 i0 i1]
      constructor
      · intro q
        rcases q with q | q
        · exact Or.inl (by rw [q])
        · exact Or.inr q
      · intro q
        rcases q with q | q
        · exact Or.inl (dc_dn_inj dn k1 i1 q)
        · exact Or.inr q
/-- the object between two calls -/
def dc_Ok (n m : Nat) (T H : Nat → Nat) (gn ge gr gc : Int32) (a1 a2 a3 a4 a9 a17 a19 a20 : Nat → Int32) : Prop :=
  dc_G n m T H gn ge a1 a2 ∧ (gc = 0 ∨ dc_Fr n m T H gr a3 a4 a9 a17 a19 a20)
theorem dc_refresh {post : St2 → Prop} {gn ge gr gc gq gf : Int32} {a1 a2 a3 a4 a5 a6 a7 a8 a9 a10 a11 a12 a13 a14 a15 a16 a17 a18 a19 a20 a21 a22 a23 a24 : Nat → Int32} {n m : Nat} {T H : Nat → Nat} (h : dc_Ok n m T H gn ge gr gc a1 a2 a3 a4 a9 a17 a19 a20)
    (K : ∀ gr gc a3 a4 a5 a6 a7 a8 a9 a10 a11 a12 a13 a14 a15 a16 a17 a18 a19 a20, ¬ gc = 0 → dc_Fr n m T H gr a3 a4 a9 a17 a19 a20 → post (gn, ge, gr, gc, gq, gf, a1, a2, a3, a4, a5, a6, a7, a8, a9, a10, a11, a12, a13, a14, a15, a16, a17, a18, a19, a20, a21, a22, a23, a24)) : wpX_refresh post (gn, ge, gr, gc, gq, gf, a1, a2, a3, a4, a5, a6, a7, a8, a9, a10, a11, a12, a13, a14, a15, a16, a17, a18, a19, a20, a21, a22, a23, a24) := by
  obtain ⟨g, h2⟩ := h
  obtain ⟨n2, n24, m60, en, em, ed⟩ := id g
  unfold wpX_refresh
  refine br_c (fun hc => ?_) (fun hc => ?_)
  · refine dc_chain g (fun a3 a4 a5 a6 c1 c2 => ?_)
    refine dc_numberVertices g c1 (fun gr a7 a8 a9 a10 a11 r at' p hr dn => ?_)
    have A : dc_At n r at' := ⟨dn.1.2.1, n24, fun i hi => (dn.2.1 i hi).1, fun i j hi hj e => dc_dn_inj dn hi hj e⟩
    refine dc_findSemi g hr dn A c2 (fun a8 a12 a13 a14 a15 a16 a17 sd h12 hS hA => ?_)
    refine dc_settle A hr dn h12 hS hA (fun a17 dd hI => ?_)
    have dlt : ∀ w, 0 < w → w < r → dd w < w := fun w a b => (dc_dom (dc_dn_tr dn) hS (fun w a b => (hI w a b).1) a b).1
    refine dc_layOut (d := dd) A en hr dn.1.1 dn.1.2.2 (fun i hi => (dn.2.1 i hi).2.2) (fun i h0 hi => ⟨dlt i h0 hi, (hI i h0 hi).2⟩) (fun a7 a18 a19 a20 z en' hz L hb => ?_)
    exact K _ _ _ _ _ _ _ _ _ _ _ _ _ _ _ _ _ _ _ _ (by decide) (dc_fr_mk (fun e he => (ed e he).2.2.2) c1 hr dn hS hI hz L hb)
  · exact K _ _ _ _ _ _ _ _ _ _ _ _ _ _ _ _ _ _ _ _ hc (h2.resolve_left hc)
end
section
/-- breadth-first search under way: q queued, k of them done, of the k-th the edges below lo -/
def dc_Bf (n m : Nat) (T H : Nat → Nat) (q k lo : Nat) (qf : Nat → Nat) (fr qu : Nat → Int) : Prop :=
  (0 < q ∧ q ≤ n ∧ qf 0 = 0) ∧ (∀ i, i < q → qf i < n ∧ qu i = (qf i : Int)) ∧ (∀ i j, i < j → j < q → qf i ≠ qf j) ∧
  (fr 0 = 0 ∧ ∀ j, 0 < j → j < q → ∃ i, i < j ∧ fr (qf j) = (qf i : Int) ∧ dc_Ed m T H (qf i) (qf j)) ∧
  (∀ v, v < n → fr v = -1 ∨ ∃ i, i < q ∧ v = qf i) ∧
  (∀ i e, i < q → e < m → T e = qf i → (i < k ∨ (i = k ∧ e < lo)) → ∃ j, j < q ∧ H e = qf j)
theorem dc_bf_old {n m q k lo e : Nat} {T H qf : Nat → Nat} {fr qu : Nat → Int} (h : dc_Bf n m T H q k lo qf fr qu) (hl : ∀ j, lo ≤ j → j < e → T j ≠ qf k) (hH : H e < n) (hf : fr (H e) ≠ -1) :
    dc_Bf n m T H q k (e + 1) qf fr qu := by
  obtain ⟨h1, h2, h3, h4, h5, h6⟩ := h
  refine ⟨h1, h2, h3, h4, h5, fun i j hi hj ht hc => ?_⟩
  rcases hc with c | ⟨c1, c2⟩
  · exact h6 i j hi hj ht (Or.inl c)
  · by_cases z : j = e
    · rw [z]
      rcases h5 (H e) hH with q | ⟨i, q1, q2⟩
      · exact absurd q hf
      · exact ⟨i, q1, q2⟩
    · rcases Nat.lt_or_ge j lo with c | c
      · exact h6 i j hi hj ht (Or.inr ⟨c1, c⟩)
      · exact absurd (by rw [ht, c1]) (hl j c (by omega))
theorem dc_bf_new {n m q k lo e : Nat} {T H qf : Nat → Nat} {fr qu : Nat → Int} (h : dc_Bf n m T H q k lo qf fr qu) (hk : k < q) (he : e < m) (ht0 : T e = qf k) (hl : ∀ j, lo ≤ j → j < e → T j ≠ qf k) (hH : H e < n) (hf : fr (H e) = -1) :
    q + 1 ≤ n ∧ dc_Bf n m T H (q + 1) k (e + 1) (dc_nu qf q (H e)) (dc_iu fr (H e) (qf k : Int)) (dc_iu qu q (H e : Int)) := by
  obtain ⟨h1, h2, h3, h4, h5, h6⟩ := h
  have pos : ∀ i, i < q → qf i ≠ H e := fun i hi z => by
    rcases Nat.eq_zero_or_pos i with c | c
    · rw [c, h1.2.2] at z
      rw [← z, h4.1] at hf
      omega
    · obtain ⟨j, j1, j2, j3⟩ := h4.2 i c hi
      rw [z, hf] at j2
      omega
  have ql : ∀ i, i < q → dc_nu qf q (H e) i = qf i := fun i hi => dc_nu_n (by omega)
  have inj : ∀ i j, i < j → j < q + 1 → dc_nu qf q (H e) i ≠ dc_nu qf q (H e) j := by
    intro i j a b
    rw [ql i (by omega)]
    by_cases z : j = q
    · rw [z, dc_nu_s]; exact pos i (by omega)
    · rw [ql j (by omega)]; exact h3 i j a (by omega)
  have lt : ∀ i, i < q + 1 → dc_nu qf q (H e) i < n := by
    intro i hi
    by_cases z : i = q
    · rw [z, dc_nu_s]; exact hH
    · rw [ql i (by omega)]; exact (h2 i (by omega)).1
  refine ⟨dc_pig inj lt, ⟨by omega, dc_pig inj lt, by rw [ql 0 h1.1]; exact h1.2.2⟩, fun i hi => ⟨lt i hi, ?_⟩, inj, ⟨?_, fun j j0 jq => ?_⟩, fun v hv => ?_, fun i j hi hj ht hc => ?_⟩
  · by_cases z : i = q
    · rw [z, dc_iu_s, dc_nu_s]
    · rw [dc_iu_n z, ql i (by omega)]; exact (h2 i (by omega)).2
  · have := pos 0 h1.1
    rw [h1.2.2] at this
    rw [dc_iu_n this]
    exact h4.1
  · by_cases z : j = q
    · refine ⟨k, by omega, ?_⟩
      rw [z, dc_nu_s, dc_iu_s, ql k hk]
      exact ⟨rfl, e, he, ht0, rfl⟩
    · obtain ⟨i, i1, i2, i3⟩ := h4.2 j j0 (by omega)
      refine ⟨i, i1, ?_⟩
      rw [ql i (by omega), ql j (by omega), dc_iu_n (pos j (by omega))]
      exact ⟨i2, i3⟩
  · by_cases z : v = H e
    · exact Or.inr ⟨q, by omega, by rw [dc_nu_s]; exact z⟩
    · rw [dc_iu_n z]
      rcases h5 v hv with c | ⟨i, c1, c2⟩
      · exact Or.inl c
      · exact Or.inr ⟨i, by omega, by rw [ql i c1]; exact c2⟩
  · have old : i < q → T j = qf i → (i < k ∨ (i = k ∧ j < lo)) → ∃ j', j' < q + 1 ∧ H j = dc_nu qf q (H e) j' := by
      intro a b c
      obtain ⟨j', c1, c2⟩ := h6 i j a hj b c
      exact ⟨j', by omega, by rw [ql j' c1]; exact c2⟩
    have hiq : i < q := by
      rcases hc with c | c
      · omega
      · omega
    rw [ql i hiq] at ht
    rcases hc with c | ⟨c1, c2⟩
    · exact old hiq ht (Or.inl c)
    · by_cases z : j = e
      · exact ⟨q, by omega, by rw [dc_nu_s, z]⟩
      · rcases Nat.lt_or_ge j lo with c | c
        · exact old hiq ht (Or.inr ⟨c1, c⟩)
        · exact absurd (by rw [ht, c1]) (hl j c (by omega))
/-- one done, on to the next -/
theorem dc_bf_next {n m q k lo : Nat} {T H qf : Nat → Nat} {fr qu : Nat → Int} (h : dc_Bf n m T H q k lo qf fr qu) (hl : ∀ j, lo ≤ j → j < m → T j ≠ qf k) : dc_Bf n m T H q (k + 1) 0 qf fr qu := by
  obtain ⟨h1, h2, h3, h4, h5, h6⟩ := h
  refine ⟨h1, h2, h3, h4, h5, fun i j hi hj ht hc => ?_⟩
  rcases hc with c | ⟨c1, c2⟩
  · by_cases z : i = k
    · refine h6 i j hi hj ht (Or.inr ⟨z, ?_⟩)
      rcases Nat.lt_or_ge j lo with d | d
      · exact d
      · exact absurd (by rw [ht, z]) (hl j d hj)
    · exact h6 i j hi hj ht (Or.inl (by omega))
  · exact absurd c2 (by omega)
/-- a path from 0 to v, each vertex once, along fr -/
def dc_Pt (n m : Nat) (T H : Nat → Nat) (v len : Nat) (pt : Nat → Nat) (fr : Nat → Int) : Prop :=
  pt 0 = 0 ∧ pt len = v ∧ (∀ k, k < len → fr (pt (k + 1)) = (pt k : Int) ∧ dc_Ed m T H (pt k) (pt (k + 1))) ∧ (∀ k, k ≤ len → pt k < n) ∧ (∀ i j, i < j → j ≤ len → pt i ≠ pt j)
theorem dc_bf_pt {n m q k lo : Nat} {T H qf : Nat → Nat} {fr qu : Nat → Int} (h : dc_Bf n m T H q k lo qf fr qu) :
    ∀ j, j < q → ∃ len pt, dc_Pt n m T H (qf j) len pt fr ∧ ∀ i, i ≤ len → ∃ a, a ≤ j ∧ pt i = qf a := by
  obtain ⟨h1, h2, h3, h4, h5, h6⟩ := h
  intro j
  induction j using Nat.strongRecOn with
  | ind j ih =>
    intro hj
    rcases Nat.eq_zero_or_pos j with e | e
    · refine ⟨0, fun _ => 0, ⟨rfl, ?_, fun k hk => absurd hk (by omega), fun k hk => (show 0 < n by omega), fun i j a b => absurd a (by omega)⟩, fun i hi => ⟨0, by omega, ?_⟩⟩
      · rw [e]; exact h1.2.2.symm
      · exact h1.2.2.symm
    · obtain ⟨i, i1, i2, i3⟩ := h4.2 j e hj
      obtain ⟨len, pt, ⟨p1, p2, p3, p4, p5⟩, p6⟩ := ih i i1 (by omega)
      have ol : ∀ k, k ≤ len → dc_nu pt (len + 1) (qf j) k = pt k := fun k hk => dc_nu_n (by omega)
      refine ⟨len + 1, dc_nu pt (len + 1) (qf j), ⟨by rw [ol 0 (by omega)]; exact p1, dc_nu_s, fun k hk => ?_, fun k hk => ?_, fun a b hab hb => ?_⟩, fun a ha => ?_⟩
      · by_cases z : k = len
        · rw [z, dc_nu_s, ol len (by omega), p2]
          exact ⟨i2, i3⟩
        · rw [ol k (by omega), ol (k + 1) (by omega)]
          exact p3 k (by omega)
      · by_cases z : k = len + 1
        · rw [z, dc_nu_s]; exact (h2 j hj).1
        · rw [ol k (by omega)]; exact p4 k (by omega)
      · rw [ol a (by omega)]
        by_cases z : b = len + 1
        · rw [z, dc_nu_s]
          obtain ⟨c, c1, c2⟩ := p6 a (by omega)
          rw [c2]
          exact h3 c j (by omega) hj
        · rw [ol b (by omega)]; exact p5 a b hab (by omega)
      · by_cases z : a = len + 1
        · rw [z, dc_nu_s]; exact ⟨j, Nat.le_refl _, rfl⟩
        · rw [ol a (by omega)]
          obtain ⟨c, c1, c2⟩ := p6 a (by omega)
          exact ⟨c, by omega, c2⟩
/-- the search done: a path to every vertex that can be reached -/
theorem dc_bf_end {n m q k lo v : Nat} {T H qf : Nat → Nat} {fr qu : Nat → Int} (h : dc_Bf n m T H q k lo qf fr qu) (hk : q ≤ k) (hv : dc_Rp (dc_Ed m T H) (fun _ => True) 0 v) :
    ∃ len pt, dc_Pt n m T H v len pt fr := by
  have hh := h
  obtain ⟨h1, h2, h3, h4, h5, h6⟩ := hh
  have : ∃ j, j < q ∧ v = qf j := by
    refine dc_rp_ind (fun v => ∃ j, j < q ∧ v = qf j) hv ⟨0, h1.1, h1.2.2.symm⟩ (fun x y _ ix hxy _ => ?_)
    obtain ⟨i, i1, i2⟩ := ix
    obtain ⟨e, e1, e2, e3⟩ := hxy
    rw [← e3]
    exact h6 i e i1 e1 (by rw [e2, i2]) (Or.inl (by omega))
  obtain ⟨j, j1, j2⟩ := this
  obtain ⟨len, pt, p, _⟩ := dc_bf_pt h j j1
  rw [j2]
  exact ⟨len, pt, p⟩
theorem dc_pt_len {n m v len : Nat} {T H pt : Nat → Nat} {fr : Nat → Int} (P : dc_Pt n m T H v len pt fr) : len + 1 ≤ n :=
  dc_pig (f := pt) (fun i j a b => P.2.2.2.2 i j a (by omega)) (fun i hi => P.2.2.2.1 i (by omega))
theorem dc_pt_seg {n m v len a : Nat} {T H pt : Nat → Nat} {fr : Nat → Int} (P : dc_Pt n m T H v len pt fr) : ∀ b, a ≤ b → b ≤ len →
    dc_Rp (dc_Ed m T H) (fun x => ∃ i, a < i ∧ i ≤ b ∧ x = pt i) (pt a) (pt b) := by
  intro b
  induction b with
  | zero =>
    intro h1 h2
    rw [show a = 0 by omega]
    exact dc_rp_refl
  | succ b ih =>
    intro h1 h2
    by_cases z : a = b + 1
    · rw [z]; exact dc_rp_refl
    · refine dc_rp_snoc (dc_rp_mono (ih (by omega) (by omega)) (fun x hx => ?_)) (P.2.2.1 b (by omega)).2 ⟨b + 1, by omega, Nat.le_refl _, rfl⟩
      obtain ⟨i, i1, i2, i3⟩ := hx
      exact ⟨i, i1, by omega, i3⟩
/-- x is off the path -/
def dc_Of (len : Nat) (pt : Nat → Nat) (x : Nat) : Prop := ∀ i, i ≤ len → x ≠ pt i
/-- the edge e is minded: its head is on the path up to F, or visited -/
def dc_Oe (H : Nat → Nat) (len : Nat) (pt : Nat → Nat) (F : Nat) (vi : Nat → Int) (e : Nat) : Prop :=
  (∀ j, j ≤ len → H e = pt j → j ≤ F) ∧ (dc_Of len pt (H e) → vi (H e) ≠ 0)
/-- what is visited, and F, are reached from the first K vertices of the path -/
def dc_So (n m : Nat) (T H : Nat → Nat) (len : Nat) (pt : Nat → Nat) (K F : Nat) (vi : Nat → Int) : Prop :=
  (∀ x, x < n → vi x ≠ 0 → dc_Of len pt x ∧ ∃ i, i < K ∧ dc_Rp (dc_Ed m T H) (dc_Of len pt) (pt i) x) ∧
  (F = 0 ∨ (F ≤ len ∧ ∃ i c, i < K ∧ dc_Rp (dc_Ed m T H) (dc_Of len pt) (pt i) c ∧ dc_Ed m T H c (pt F)))
/-- all edges out of the first K vertices of the path and of what is visited are minded -/
def dc_Cl (n m : Nat) (T H : Nat → Nat) (len : Nat) (pt : Nat → Nat) (K F : Nat) (vi : Nat → Int) : Prop :=
  ∀ x, x < n → ((∃ i, i < K ∧ x = pt i) ∨ vi x ≠ 0) → ∀ e, e < m → T e = x → dc_Oe H len pt F vi e
theorem dc_oe_mono {H pt : Nat → Nat} {len F F' e : Nat} {vi vi' : Nat → Int} (h : dc_Oe H len pt F vi e) (hF : F ≤ F') (hv : ∀ x, vi x ≠ 0 → vi' x ≠ 0) : dc_Oe H len pt F' vi' e :=
  ⟨fun j a b => Nat.le_trans (h.1 j a b) hF, fun a => hv _ (h.2 a)⟩
/-- the walk away from pt k: q queued, kk done, of the kk-th the edges below lo -/
def dc_Lq (n m : Nat) (T H : Nat → Nat) (len : Nat) (pt : Nat → Nat) (k q kk lo : Nat) (qf : Nat → Nat) (F : Nat) (vi qu : Nat → Int) : Prop :=
  (0 < q ∧ q ≤ n ∧ qf 0 = pt k) ∧ (∀ i, i < q → qf i < n ∧ qu i = (qf i : Int) ∧ (0 < i → vi (qf i) ≠ 0)) ∧ (∀ i j, i < j → j < q → qf i ≠ qf j) ∧
  dc_So n m T H len pt (k + 1) F vi ∧
  (∀ x, x < n → ((∃ i, i < k ∧ x = pt i) ∨ vi x ≠ 0) → (∃ i, i < q ∧ x = qf i) ∨ ∀ e, e < m → T e = x → dc_Oe H len pt F vi e) ∧
  (∀ i e, i < q → e < m → T e = qf i → (i < kk ∨ (i = kk ∧ e < lo)) → dc_Oe H len pt F vi e)
theorem dc_lq_0 {n m v len k F : Nat} {T H pt qf : Nat → Nat} {fr vi qu : Nat → Int} (P : dc_Pt n m T H v len pt fr) (hk : k ≤ len) (S : dc_So n m T H len pt k F vi) (C : dc_Cl n m T H len pt k F vi)
    (hq : qu 0 = (pt k : Int)) (hqf : qf = fun _ => pt k) : dc_Lq n m T H len pt k 1 0 0 qf F vi qu := by
  subst hqf
  have := P.2.2.2.1 k hk
  refine ⟨⟨by omega, by omega, rfl⟩, fun i hi => ?_, fun i j a b => absurd a (by omega), ⟨fun x hx hv => ?_, ?_⟩, fun x hx hc => Or.inr (C x hx hc), fun i e hi he ht hc => ?_⟩
  · have : i = 0 := by omega
    subst this
    exact ⟨by omega, hq, fun h => absurd h (by omega)⟩
  · obtain ⟨s1, i, s2, s3⟩ := S.1 x hx hv
    exact ⟨s1, i, by omega, s3⟩
  · rcases S.2 with s | ⟨s1, i, c, s2, s3⟩
    · exact Or.inl s
    · exact Or.inr ⟨s1, i, c, by omega, s3⟩
  · rcases hc with c | c
    · omega
    · omega
theorem dc_lq_next {n m len k q kk lo F : Nat} {T H pt qf : Nat → Nat} {vi qu : Nat → Int} (h : dc_Lq n m T H len pt k q kk lo qf F vi qu) (hl : ∀ j, lo ≤ j → j < m → T j ≠ qf kk) :
    dc_Lq n m T H len pt k q (kk + 1) 0 qf F vi qu := by
  obtain ⟨h1, h2, h3, h4, h5, h6⟩ := h
  refine ⟨h1, h2, h3, h4, h5, fun i j hi hj ht hc => ?_⟩
  rcases hc with c | ⟨c1, c2⟩
  · by_cases z : i = kk
    · refine h6 i j hi hj ht (Or.inr ⟨z, ?_⟩)
      rcases Nat.lt_or_ge j lo with d | d
      · exact d
      · exact absurd (by rw [ht, z]) (hl j d hj)
    · exact h6 i j hi hj ht (Or.inl (by omega))
  · exact absurd c2 (by omega)
theorem dc_lq_end {n m len k q kk lo F : Nat} {T H pt qf : Nat → Nat} {vi qu : Nat → Int} (h : dc_Lq n m T H len pt k q kk lo qf F vi qu) (hk : q ≤ kk) :
    dc_So n m T H len pt (k + 1) F vi ∧ dc_Cl n m T H len pt (k + 1) F vi := by
  obtain ⟨h1, h2, h3, h4, h5, h6⟩ := h
  refine ⟨h4, fun x hx hc e he ht => ?_⟩
  have inq : ∀ i, i < q → x = qf i → dc_Oe H len pt F vi e := fun i hi e' => h6 i e hi he (by rw [ht, e']) (Or.inl (by omega))
  have old : ((∃ i, i < k ∧ x = pt i) ∨ vi x ≠ 0) → dc_Oe H len pt F vi e := fun hc => by
    rcases h5 x hx hc with ⟨i, i1, i2⟩ | g
    · exact inq i i1 i2
    · exact g e he ht
  rcases hc with ⟨i, i1, i2⟩ | c
  · by_cases z : i = k
    · exact inq 0 h1.1 (by rw [i2, z, h1.2.2])
    · exact old (Or.inl ⟨i, by omega, i2⟩)
  · exact old (Or.inr c)
/-- the edge e out of the kk-th is minded -/
theorem dc_lq_step {n m len k q kk lo e F F' : Nat} {T H pt qf : Nat → Nat} {vi qu : Nat → Int} (h : dc_Lq n m T H len pt k q kk lo qf F vi qu) (hl : ∀ j, lo ≤ j → j < e → T j ≠ qf kk)
    (hF : F ≤ F') (hS : dc_So n m T H len pt (k + 1) F' vi) (ho : dc_Oe H len pt F' vi e) : dc_Lq n m T H len pt k q kk (e + 1) qf F' vi qu := by
  obtain ⟨h1, h2, h3, h4, h5, h6⟩ := h
  refine ⟨h1, h2, h3, hS, fun x hx hc => ?_, fun i j hi hj ht hc => ?_⟩
  · rcases h5 x hx hc with g | g
    · exact Or.inl g
    · exact Or.inr (fun e he ht => dc_oe_mono (g e he ht) hF (fun _ z => z))
  · rcases hc with c | ⟨c1, c2⟩
    · exact dc_oe_mono (h6 i j hi hj ht (Or.inl c)) hF (fun _ z => z)
    · by_cases z : j = e
      · rw [z]; exact ho
      · rcases Nat.lt_or_ge j lo with c | c
        · exact dc_oe_mono (h6 i j hi hj ht (Or.inr ⟨c1, c⟩)) hF (fun _ z => z)
        · exact absurd (by rw [ht, c1]) (hl j c (by omega))
/-- the kk-th is reached from the path -/
theorem dc_lq_src {n m len k q kk lo F : Nat} {T H pt qf : Nat → Nat} {vi qu : Nat → Int} (h : dc_Lq n m T H len pt k q kk lo qf F vi qu) (hk : kk < q) :
    ∃ i, i < k + 1 ∧ dc_Rp (dc_Ed m T H) (dc_Of len pt) (pt i) (qf kk) := by
  obtain ⟨h1, h2, h3, h4, h5, h6⟩ := h
  rcases Nat.eq_zero_or_pos kk with z | z
  · rw [z, h1.2.2]
    exact ⟨k, by omega, dc_rp_refl⟩
  · obtain ⟨q1, q2, q3⟩ := h2 kk hk
    obtain ⟨s1, i, s2, s3⟩ := h4.1 (qf kk) q1 (q3 z)
    exact ⟨i, s2, s3⟩
/-- the head of e lies on the path, at j -/
theorem dc_lq_on {n m v len k q kk lo e j F F' : Nat} {T H pt qf : Nat → Nat} {fr vi qu : Nat → Int} (P : dc_Pt n m T H v len pt fr) (h : dc_Lq n m T H len pt k q kk lo qf F vi qu) (hk : kk < q) (he : e < m) (ht : T e = qf kk)
    (hl : ∀ j, lo ≤ j → j < e → T j ≠ qf kk) (hj : j ≤ len) (hh : H e = pt j) (hF : F' = if F < j then j else F) : dc_Lq n m T H len pt k q kk (e + 1) qf F' vi qu := by
  have F1 : F ≤ F' ∧ j ≤ F' := by
    rw [hF]
    by_cases c : F < j
    · rw [if_pos c]; omega
    · rw [if_neg c]; omega
  obtain ⟨i, i1, i2⟩ := dc_lq_src h hk
  refine dc_lq_step h hl F1.1 ⟨h.2.2.2.1.1, ?_⟩ ⟨fun j' a b => ?_, fun o => absurd hh (o j hj)⟩
  · rw [hF]
    by_cases c : F < j
    · rw [if_pos c]
      exact Or.inr ⟨hj, i, qf kk, i1, i2, e, he, ht, hh⟩
    · rw [if_neg c]; exact h.2.2.2.1.2
  · have : j' = j := by
      rw [hh] at b
      rcases Nat.lt_or_ge j j' with c | c
      · exact absurd b (P.2.2.2.2 j j' c a)
      · rcases Nat.lt_or_ge j' j with d | d
        · exact absurd b.symm (P.2.2.2.2 j' j d hj)
        · omega
    omega
/-- the head of e is off the path and visited already -/
theorem dc_lq_old {n m len k q kk lo e F : Nat} {T H pt qf : Nat → Nat} {vi qu : Nat → Int} (h : dc_Lq n m T H len pt k q kk lo qf F vi qu)
    (hl : ∀ j, lo ≤ j → j < e → T j ≠ qf kk) (ho : dc_Of len pt (H e)) (hv : vi (H e) ≠ 0) : dc_Lq n m T H len pt k q kk (e + 1) qf F vi qu :=
  dc_lq_step h hl (Nat.le_refl F) h.2.2.2.1 ⟨fun j a b => absurd b (ho j a), fun _ => hv⟩
/-- the head of e is off the path and new -/
theorem dc_lq_new {n m len k q kk lo e F : Nat} {T H pt qf : Nat → Nat} {vi qu : Nat → Int} {x y : Int} (h : dc_Lq n m T H len pt k q kk lo qf F vi qu) (hkl : k ≤ len) (hk : kk < q) (he : e < m) (ht : T e = qf kk)
    (hl : ∀ j, lo ≤ j → j < e → T j ≠ qf kk) (hH : H e < n) (ho : dc_Of len pt (H e)) (hv : vi (H e) = 0) (hx : x = 1) (hy : y = (H e : Int)) :
    q + 1 ≤ n ∧ dc_Lq n m T H len pt k (q + 1) kk (e + 1) (dc_nu qf q (H e)) F (dc_iu vi (H e) x) (dc_iu qu q y) := by
  obtain ⟨s, s1, s2⟩ := dc_lq_src h hk
  obtain ⟨h1, h2, h3, h4, h5, h6⟩ := h
  have pos : ∀ i, i < q → qf i ≠ H e := fun i hi z => by
    rcases Nat.eq_zero_or_pos i with c | c
    · rw [c, h1.2.2] at z
      exact ho k hkl z.symm
    · have := (h2 i hi).2.2 c
      rw [z] at this
      exact this hv
  have ql : ∀ i, i < q → dc_nu qf q (H e) i = qf i := fun i hi => dc_nu_n (by omega)
  have inj : ∀ i j, i < j → j < q + 1 → dc_nu qf q (H e) i ≠ dc_nu qf q (H e) j := by
    intro i j a b
    rw [ql i (by omega)]
    by_cases z : j = q
    · rw [z, dc_nu_s]; exact pos i (by omega)
    · rw [ql j (by omega)]; exact h3 i j a (by omega)
  have lt : ∀ i, i < q + 1 → dc_nu qf q (H e) i < n := by
    intro i hi
    by_cases z : i = q
    · rw [z, dc_nu_s]; exact hH
    · rw [ql i (by omega)]; exact (h2 i (by omega)).1
  have up : ∀ z, vi z ≠ 0 → dc_iu vi (H e) x z ≠ 0 := by
    intro z hz
    by_cases w : z = H e
    · rw [w, dc_iu_s]; omega
    · rw [dc_iu_n w]; exact hz
  have hq := dc_pig inj lt
  refine ⟨hq, ⟨by omega, hq, by rw [ql 0 h1.1]; exact h1.2.2⟩, fun i hi => ⟨lt i hi, ?_, fun i0 => ?_⟩, inj, ⟨fun z hz hvz => ?_, h4.2⟩, fun z hz hc => ?_, fun i j hi hj ht' hc => ?_⟩
  · by_cases z : i = q
    · rw [z, dc_iu_s, dc_nu_s]; exact hy
    · rw [dc_iu_n z, ql i (by omega)]; exact (h2 i (by omega)).2.1
  · by_cases z : i = q
    · rw [z, dc_nu_s, dc_iu_s]; omega
    · rw [ql i (by omega)]
      exact up _ ((h2 i (by omega)).2.2 i0)
  · by_cases w : z = H e
    · rw [w]
      exact ⟨ho, s, s1, dc_rp_snoc s2 ⟨e, he, ht, rfl⟩ ho⟩
    · rw [dc_iu_n w] at hvz
      exact h4.1 z hz hvz
  · by_cases w : z = H e
    · exact Or.inl ⟨q, by omega, by rw [dc_nu_s]; exact w⟩
    · rw [dc_iu_n w] at hc
      rcases h5 z hz hc with ⟨i, i1, i2⟩ | g
      · exact Or.inl ⟨i, by omega, by rw [ql i i1]; exact i2⟩
      · exact Or.inr (fun e' a b => dc_oe_mono (g e' a b) (Nat.le_refl F) up)
  · have hiq : i < q := by
      rcases hc with c | c
      · omega
      · omega
    rw [ql i hiq] at ht'
    rcases hc with c | ⟨c1, c2⟩
    · exact dc_oe_mono (h6 i j hiq hj ht' (Or.inl c)) (Nat.le_refl F) up
    · by_cases z : j = e
      · rw [z]
        exact ⟨fun j' a b => absurd b (ho j' a), fun _ => by rw [dc_iu_s]; omega⟩
      · rcases Nat.lt_or_ge j lo with c | c
        · exact dc_oe_mono (h6 i j hiq hj ht' (Or.inr ⟨c1, c⟩)) (Nat.le_refl F) up
        · exact absurd (by rw [ht', c1]) (hl j c (by omega))
/-- the (k+1)-th vertex of the path is a dominator of v just if nothing from before it leads behind it -/
theorem dc_sw_dom {n m v len k F : Nat} {T H pt : Nat → Nat} {fr vi : Nat → Int} (P : dc_Pt n m T H v len pt fr) (hT : ∀ e, e < m → T e < n ∧ H e < n) (hk : k < len) (S : dc_So n m T H len pt (k + 1) F vi) (C : dc_Cl n m T H len pt (k + 1) F vi) :
    F ≤ len ∧ (F = k + 1 ↔ ¬ dc_Av (dc_Ed m T H) (pt (k + 1)) v) := by
  obtain ⟨p1, p2, p3, p4, p5⟩ := id P
  have hF : k + 1 ≤ F := by
    obtain ⟨e, e1, e2, e3⟩ := (p3 k hk).2
    exact (C (pt k) (p4 k (by omega)) (Or.inl ⟨k, by omega, rfl⟩) e e1 e2).1 (k + 1) (by omega) e3
  have hFl : F ≤ len := by
    rcases S.2 with s | s
    · omega
    · exact s.1
  refine ⟨hFl, fun hFk hv => ?_, fun hn => ?_⟩
  · have hv' : (∃ i, i < k + 1 ∧ v = pt i) ∨ (v < n ∧ vi v ≠ 0) := by
      refine dc_rp_ind (fun x => (∃ i, i < k + 1 ∧ x = pt i) ∨ (x < n ∧ vi x ≠ 0)) hv.2 (Or.inl ⟨0, by omega, p1.symm⟩) (fun x y _ ix hxy hy => ?_)
      obtain ⟨e, e1, e2, e3⟩ := hxy
      have hx : x < n := by rw [← e2]; exact (hT e e1).1
      have hyn : y < n := by rw [← e3]; exact (hT e e1).2
      have o : dc_Oe H len pt F vi e := C x hx (ix.elim Or.inl (fun z => Or.inr z.2)) e e1 e2
      unfold dc_Oe at o
      rw [e3] at o
      by_cases on : ∃ j, j ≤ len ∧ y = pt j
      · obtain ⟨j, j1, j2⟩ := on
        have := o.1 j j1 j2
        have : j ≠ k + 1 := fun z => hy (by rw [j2, z])
        exact Or.inl ⟨j, by omega, j2⟩
      · exact Or.inr ⟨hyn, o.2 (fun j j1 j2 => on ⟨j, j1, j2⟩)⟩
    rcases hv' with ⟨i, i1, i2⟩ | ⟨i1, i2⟩
    · exact p5 i len (by omega) (Nat.le_refl _) (by rw [← i2, p2])
    · exact (S.1 v i1 i2).1 len (Nat.le_refl _) p2.symm
  · refine Classical.byContradiction (fun hne => hn ?_)
    have hlt : k + 1 < F := by omega
    rcases S.2 with s | ⟨s1, i, c, s2, s3, s4⟩
    · omega
    · have z0 : pt (k + 1) ≠ 0 := fun z => p5 0 (k + 1) (by omega) (by omega) (by rw [p1, z])
      refine ⟨z0, ?_⟩
      have g1 : dc_Rp (dc_Ed m T H) (fun q => q ≠ pt (k + 1)) 0 (pt i) := by
        have := dc_pt_seg (a := 0) P i (by omega) (by omega)
        rw [p1] at this
        refine dc_rp_mono this (fun x hx e => ?_)
        obtain ⟨j, j1, j2, j3⟩ := hx
        exact p5 j (k + 1) (by omega) (by omega) (by rw [← j3, e])
      have g2 : dc_Rp (dc_Ed m T H) (fun q => q ≠ pt (k + 1)) 0 (pt F) :=
        dc_rp_snoc (dc_rp_trans g1 (dc_rp_mono s3 (fun x hx => hx (k + 1) (by omega)))) s4 (fun e => p5 (k + 1) F hlt s1 e.symm)
      have g3 := dc_pt_seg (a := F) P len s1 (Nat.le_refl _)
      rw [p2] at g3
      refine dc_rp_trans g2 (dc_rp_mono g3 (fun x hx e => ?_))
      obtain ⟨j, j1, j2, j3⟩ := hx
      exact p5 (k + 1) j (by omega) j2 (by rw [← j3, e])
theorem dc_cn_shift {Q : Nat → Prop} (h0 : Q 0) : ∀ L, dc_cn Q (L + 1) = 1 + dc_cn (fun i => Q (i + 1)) L := by
  intro L
  induction L with
  | zero => rw [dc_cn_t h0]; rfl
  | succ L ih =>
    by_cases h : Q (L + 1)
    · rw [dc_cn_t h, ih, dc_cn_t (P := fun i => Q (i + 1)) h]
      omega
    · rw [dc_cn_f h, ih, dc_cn_f (P := fun i => Q (i + 1)) h]
/-- how many dominators v has -/
noncomputable def dc_D (n m : Nat) (T H : Nat → Nat) (v : Nat) : Nat := dc_cn (fun u => ¬ dc_Av (dc_Ed m T H) u v) n
theorem dc_sw_sum {n m v len : Nat} {T H pt : Nat → Nat} {fr : Nat → Int} (P : dc_Pt n m T H v len pt fr) :
    dc_D n m T H v = 1 + dc_cn (fun i => ¬ dc_Av (dc_Ed m T H) (pt (i + 1)) v) len := by
  obtain ⟨p1, p2, p3, p4, p5⟩ := id P
  unfold dc_D
  rw [dc_cn_map (n := n) (f := pt) (len + 1) (fun u => ¬ dc_Av (dc_Ed m T H) u v) (fun i j a b => p5 i j a (by omega)) (fun i hi => p4 i (by omega)) (fun u hu h => ?_)]
  · exact dc_cn_shift (Q := fun k => ¬ dc_Av (dc_Ed m T H) (pt k) v) (by rw [p1]; exact fun z => z.1 rfl) len
  · refine Classical.byContradiction (fun hn => h ⟨fun z => hn ⟨0, by omega, by rw [p1, z]⟩, ?_⟩)
    have g := dc_pt_seg (a := 0) P len (by omega) (Nat.le_refl _)
    rw [p1, p2] at g
    refine dc_rp_mono g (fun x hx e => ?_)
    obtain ⟨j, j1, j2, j3⟩ := hx
    exact hn ⟨j, by omega, by rw [← j3, e]⟩
theorem dc_D_step {n m v d : Nat} {T H : Nat → Nat} (hv : v < n) (h1 : dc_Av (dc_Ed m T H) v d) (h2 : ∀ u, dc_Av (dc_Ed m T H) u v ↔ (u ≠ v ∧ dc_Av (dc_Ed m T H) u d)) :
    dc_D n m T H v = dc_D n m T H d + 1 := by
  refine dc_cn_ins hv (fun z => z h1) (fun i hi => ?_)
  rw [h2 i]
  constructor
  · intro z
    by_cases e : i = v
    · exact Or.inr e
    · exact Or.inl (fun w => z ⟨e, w⟩)
  · intro z w
    rcases z with z | z
    · exact z w.2
    · exact w.1 z
end
section
theorem dc_bf74 {post : St2 → Prop} {J : Int32 → Int32 → (Nat → Int32) → (Nat → Int32) → (Nat → Int32) → (Nat → Int32) → (Nat → Int32) → (Nat → Int32) → (Nat → Int32) → (Nat → Int32) → (Nat → Int32) → (Nat → Int32) → (Nat → Int32) → (Nat → Int32) → (Nat → Int32) → (Nat → Int32) → (Nat → Int32) → (Nat → Int32) → (Nat → Int32) → (Nat → Int32) → (Nat → Int32) → (Nat → Int32) → (Nat → Int32) → (Nat → Int32) → (Nat → Int32) → (Nat → Int32) → Prop} {gn ge gr gc gf : Int32} {a1 a2 a3 a4 a5 a6 a7 a8 a9 a10 a11 a12 a13 a14 a15 a16 a17 a18 a19 a20 a21 a24 : Nat → Int32} {n m k : Nat} {T H : Nat → Nat} {x1 : Int32} (g : dc_G n m T H gn ge a1 a2)
    (hch : ∀ e, e < m → dc_Nx T (T e) (e + 1) m (dc_ti a4 e)) (hx1 : x1.toInt = (k : Int))
    (K : ∀ gq a22 a23 q qf, ∀ y : Int32, gq.toInt = ((q : Nat) : Int) → y.toInt = ((k + 1 : Nat) : Int) → dc_Bf n m T H q (k + 1) 0 qf (dc_ti a22) (dc_ti a23) → J y gq a1 a2 a3 a4 a5 a6 a7 a8 a9 a10 a11 a12 a13 a14 a15 a16 a17 a18 a19 a20 a21 a22 a23 a24) :
    ∀ (f c lo : Nat) (x2 x3 gq : Int32) (a22 a23 : Nat → Int32) (q : Nat) (qf : Nat → Nat), m < lo + f → c ≤ lo → lo ≤ m → dc_Nx T (qf k) lo m x2.toInt → x3.toInt = (c : Int) → gq.toInt = (q : Int) → k < q →
      dc_Bf n m T H q k lo qf (dc_ti a22) (dc_ti a23) → wX_breadthFirst_74 post J x1 gn ge gr gc gf f x2 x3 gq a1 a2 a3 a4 a5 a6 a7 a8 a9 a10 a11 a12 a13 a14 a15 a16 a17 a18 a19 a20 a21 a22 a23 a24 := by
  obtain ⟨n2, n24, m60, en, em, ed⟩ := id g
  intro f
  induction f with
  | zero => intro c lo x2 x3 gq a22 a23 q qf hf _ hl; exact absurd hf (by omega)
  | succ f ih =>
    intro c lo x2 x3 gq a22 a23 q qf hf hc hl hx2 hx3 hq hk B
    have qn := B.1.2.1
    have hy1 : (x1 + 1).toInt = ((k + 1 : Nat) : Int) := dc_inc hx1 (by omega)
    refine dc_brl (fun z => ?_) (fun z => ?_)
    · rw [dc_i60, hx3] at z
      intro y ey
      subst ey
      exact K gq a22 a23 q qf _ hq hy1 (dc_bf_next B (fun j a b => by omega))
    · refine dc_bre (fun w => ?_) (fun w => ?_)
      · rw [dc_im1] at w
        intro y ey
        subst ey
        exact K gq a22 a23 q qf _ hq hy1 (dc_bf_next B (dc_nx_none hx2 w))
      · rw [dc_im1] at w
        obtain ⟨e, e1, e2, e3, e4, e5⟩ := dc_nx_some hx2 w
        obtain ⟨t1, t2, t3, t4⟩ := ed e e3
        have v2 : vp_in x2 60 := dc_in e1 (by omega)
        have hy3 : (x3 + 1).toInt = ((c + 1 : Nat) : Int) := dc_inc hx3 (by omega)
        have hnx : dc_Nx T (qf k) (e + 1) m (dc_ti a4 e) := by
          have := hch e e3
          rw [e4] at this
          exact this
        rw [dc_cl e1]
        refine ⟨v2, fun x4 e4' => ?_⟩
        have h4 : x4.toInt = (H e : Int) := by rw [e4']; exact t3
        rw [dc_cl h4]
        refine ⟨dc_in h4 (by omega), ?_⟩
        refine dc_bre (fun u => ?_) (fun u => ?_)
        · rw [dc_im1] at u
          obtain ⟨r1, B'⟩ := dc_bf_new B hk e3 e4 e5 t4 u
          refine br_f (fun z => by rw [dc_le, en, hq] at z; omega) ?_
          have b1 := (B.2.1 k hk)
          rw [dc_cl hx1, dc_cl hq]
          refine ⟨dc_in hx1 (by omega), dc_in h4 (by omega), fun b22 e22 => ⟨dc_in hq (by omega), fun b23 e23 => fun y ey => ⟨v2, fun y2 ey2 => fun y3 ey3 => ?_⟩⟩⟩
          subst e22 e23 ey ey2 ey3
          refine ih (c + 1) (e + 1) _ _ _ _ _ (q + 1) (dc_nu qf q (H e)) (by omega) (by omega) (by omega) ?_ hy3 (dc_inc hq (by omega)) (by omega) ?_
          · rw [dc_nu_n (by omega)]
            exact hnx
          · rw [dc_ti_upd, dc_ti_upd, h4]
            have e6 : (a23 k).toInt = (qf k : Int) := b1.2
            rw [e6]
            exact B'
        · rw [dc_im1] at u
          refine ⟨v2, fun y2 ey2 => fun y3 ey3 => ?_⟩
          subst ey2 ey3
          exact ih (c + 1) (e + 1) _ _ gq a22 a23 q qf (by omega) (by omega) (by omega) hnx hy3 hq hk (dc_bf_old B e5 t4 u)
theorem dc_bf44 {post : St2 → Prop} {gn ge gr gc gf : Int32} {a1 a2 a3 a4 a5 a6 a7 a8 a9 a10 a11 a12 a13 a14 a15 a16 a17 a18 a19 a20 a21 a24 : Nat → Int32} {n m : Nat} {T H : Nat → Nat} (g : dc_G n m T H gn ge a1 a2) (hch : dc_Ch n m T (dc_ti a3) (dc_ti a4) 0)
    (K : ∀ gq a22 a23, (∀ v, dc_Rp (dc_Ed m T H) (fun _ => True) 0 v → ∃ len pt, dc_Pt n m T H v len pt (dc_ti a22)) → post (gn, ge, gr, gc, gq, gf, a1, a2, a3, a4, a5, a6, a7, a8, a9, a10, a11, a12, a13, a14, a15, a16, a17, a18, a19, a20, a21, a22, a23, a24)) :
    ∀ (f k : Nat) (x1 gq : Int32) (a22 a23 : Nat → Int32) (q : Nat) (qf : Nat → Nat), n < k + f → k ≤ n → x1.toInt = (k : Int) → gq.toInt = (q : Int) →
      dc_Bf n m T H q k 0 qf (dc_ti a22) (dc_ti a23) → wX_breadthFirst_44 post gn ge gr gc gf f x1 gq a1 a2 a3 a4 a5 a6 a7 a8 a9 a10 a11 a12 a13 a14 a15 a16 a17 a18 a19 a20 a21 a22 a23 a24 := by
  obtain ⟨n2, n24, m60, en, em, ed⟩ := id g
  intro f
  induction f with
  | zero => intro k x1 gq a22 a23 q qf hf hk; exact absurd hf (by omega)
  | succ f ih =>
    intro k x1 gq a22 a23 q qf hf hk hx1 hq B
    have qn := B.1.2.1
    refine dc_brl (fun z => ?_) (fun z => ?_)
    · rw [en, hx1] at z
      exact K gq a22 a23 (fun v hv => dc_bf_end B (by omega) hv)
    · refine dc_brl (fun w => ?_) (fun w => ?_)
      · rw [hq, hx1] at w
        exact K gq a22 a23 (fun v hv => dc_bf_end B (by omega) hv)
      · rw [hq, hx1] at w
        have hkq : k < q := by omega
        obtain ⟨b1, b2⟩ := B.2.1 k hkq
        have b3 : (a23 k).toInt = (qf k : Int) := b2
        rw [dc_cl hx1, dc_cl b3]
        refine ⟨dc_in hx1 (by omega), dc_in b3 (by omega), fun x2 e2 => ⟨m + 1, ?_⟩⟩
        refine dc_bf74 g (fun e he => hch.2 e (Nat.zero_le e) he) hx1 (fun gq a22 a23 q qf y hq hy B' => ?_) (m + 1) 0 0 x2 0 gq a22 a23 q qf (by omega) (by omega) (by omega) ?_ dc_i0' hq hkq B
        · exact ih (k + 1) y gq a22 a23 q qf (by omega) (by have := B'.1.2.1; omega) hy hq B'
        · rw [e2]
          exact hch.1 (qf k) b1
theorem dc_bf2 {post : St2 → Prop} {gn ge gr gc gq gf : Int32} {a1 a2 a3 a4 a5 a6 a7 a8 a9 a10 a11 a12 a13 a14 a15 a16 a17 a18 a19 a20 a21 a23 a24 : Nat → Int32} {n m : Nat} {T H : Nat → Nat} (g : dc_G n m T H gn ge a1 a2) (hch : dc_Ch n m T (dc_ti a3) (dc_ti a4) 0)
    (K : ∀ gq a22 a23, (∀ v, dc_Rp (dc_Ed m T H) (fun _ => True) 0 v → ∃ len pt, dc_Pt n m T H v len pt (dc_ti a22)) → post (gn, ge, gr, gc, gq, gf, a1, a2, a3, a4, a5, a6, a7, a8, a9, a10, a11, a12, a13, a14, a15, a16, a17, a18, a19, a20, a21, a22, a23, a24)) :
    ∀ (k i : Nat) (x1 : Int32) (a22 : Nat → Int32), i + k = n → x1.toInt = (i : Int) → (∀ v, v < i → (a22 v).toInt = -1) → wX_breadthFirst_2 post gn ge gr gc gq gf (k + 1) x1 a1 a2 a3 a4 a5 a6 a7 a8 a9 a10 a11 a12 a13 a14 a15 a16 a17 a18 a19 a20 a21 a22 a23 a24 := by
  obtain ⟨n2, n24, m60, en, em, ed⟩ := id g
  intro k
  induction k with
  | zero =>
    intro i x1 a22 hk hx h
    refine br_t (dc_le.mpr (by omega)) (fun b22 e22 => fun b23 e23 => ⟨n + 1, ?_⟩)
    refine dc_bf44 g hch K (n + 1) 0 0 1 b22 b23 1 (fun _ => 0) (by omega) (by omega) dc_i0' dc_i1' ?_
    subst e22 e23
    refine ⟨⟨by omega, by omega, rfl⟩, fun i hi => ⟨(show 0 < n by omega), ?_⟩, fun i j a b => absurd a (by omega), ⟨?_, fun j a b => absurd a (by omega)⟩, fun v hv => ?_, fun i e hi he ht hc => ?_⟩
    · show (upd a23 0 0 i).toInt = 0
      rw [show i = 0 by omega, pk_us]
      exact dc_i0
    · show (upd a22 0 0 0).toInt = 0
      rw [pk_us]
      exact dc_i0
    · by_cases z : v = 0
      · exact Or.inr ⟨0, by omega, z⟩
      · refine Or.inl ?_
        show (upd a22 0 0 v).toInt = -1
        rw [pk_un z]
        exact h v (by omega)
    · rcases hc with c | c
      · omega
      · omega
  | succ k ih =>
    intro i x1 a22 hk hx h
    refine br_f (fun z => by rw [dc_le] at z; omega) ?_
    rw [dc_cl hx]
    refine ⟨dc_in hx (by omega), fun b22 e22 => fun y ey => ?_⟩
    subst e22 ey
    refine ih (i + 1) _ _ (by omega) (dc_inc hx (by omega)) (fun v hv => ?_)
    by_cases z : v = i
    · rw [z, pk_us]; exact dc_im1
    · rw [pk_un z]; exact h v (by omega)
theorem dc_breadthFirst {post : St2 → Prop} {gn ge gr gc gq gf : Int32} {a1 a2 a3 a4 a5 a6 a7 a8 a9 a10 a11 a12 a13 a14 a15 a16 a17 a18 a19 a20 a21 a22 a23 a24 : Nat → Int32} {n m : Nat} {T H : Nat → Nat} (g : dc_G n m T H gn ge a1 a2) (hch : dc_Ch n m T (dc_ti a3) (dc_ti a4) 0)
    (K : ∀ gq a22 a23, (∀ v, dc_Rp (dc_Ed m T H) (fun _ => True) 0 v → ∃ len pt, dc_Pt n m T H v len pt (dc_ti a22)) → post (gn, ge, gr, gc, gq, gf, a1, a2, a3, a4, a5, a6, a7, a8, a9, a10, a11, a12, a13, a14, a15, a16, a17, a18, a19, a20, a21, a22, a23, a24)) : wpX_breadthFirst post (gn, ge, gr, gc, gq, gf, a1, a2, a3, a4, a5, a6, a7, a8, a9, a10, a11, a12, a13, a14, a15, a16, a17, a18, a19, a20, a21, a22, a23, a24) :=
  Exists.intro (n + 1) (dc_bf2 g hch K n 0 0 a22 (by omega) dc_i0' (fun v hv => absurd hv (by omega)))
/-- the places on the path -/
def dc_Pi (n len : Nat) (pt : Nat → Nat) (a21 : Nat → Int32) : Prop := (∀ i, i ≤ len → (a21 (pt i)).toInt = (i : Int)) ∧ ∀ v, v < n → dc_Of len pt v → (a21 v).toInt = -1
theorem dc_detour {post : St2 → Prop} {gn ge gr gc gq gf : Int32} {a1 a2 a3 a4 a5 a6 a7 a8 a9 a10 a11 a12 a13 a14 a15 a16 a17 a18 a19 a20 a21 a22 a23 a24 : Nat → Int32} {n m v len k q kk lo e F : Nat} {T H pt qf : Nat → Nat} {fr : Nat → Int} {p0 : Int32} (n24 : n ≤ 24) (en : gn.toInt = (n : Int)) (P : dc_Pt n m T H v len pt fr) (Pi : dc_Pi n len pt a21) (hkl : k ≤ len)
    (he : e < m) (ht : T e = qf kk) (hl : ∀ j, lo ≤ j → j < e → T j ≠ qf kk) (hH : H e < n) (hp : p0.toInt = (H e : Int)) (hq : gq.toInt = (q : Int)) (hF : gf.toInt = (F : Int)) (hk : kk < q)
    (L : dc_Lq n m T H len pt k q kk lo qf F (dc_ti a24) (dc_ti a23))
    (K : ∀ gq gf a23 a24 q qf' F, gq.toInt = ((q : Nat) : Int) → gf.toInt = ((F : Nat) : Int) → kk < q → qf' kk = qf kk → dc_Lq n m T H len pt k q kk (e + 1) qf' F (dc_ti a24) (dc_ti a23) → post (gn, ge, gr, gc, gq, gf, a1, a2, a3, a4, a5, a6, a7, a8, a9, a10, a11, a12, a13, a14, a15, a16, a17, a18, a19, a20, a21, a22, a23, a24)) :
    wpX_detour post (gn, ge, gr, gc, gq, gf, a1, a2, a3, a4, a5, a6, a7, a8, a9, a10, a11, a12, a13, a14, a15, a16, a17, a18, a19, a20, a21, a22, a23, a24) p0 := by
  unfold wpX_detour
  dsimp only
  have v0 : vp_in p0 24 := dc_in hp (by omega)
  have qn := L.1.2.1
  rw [dc_cl hp]
  refine ⟨v0, ?_⟩
  by_cases on : ∃ j, j ≤ len ∧ H e = pt j
  · obtain ⟨j, j1, j2⟩ := on
    have a1 : (a21 (H e)).toInt = (j : Int) := by rw [j2]; exact Pi.1 j j1
    refine br_f (fun z => by rw [dc_lt', a1, dc_i0] at z; omega) ⟨v0, dc_brl (fun z => ?_) (fun z => ?_)⟩
    · rw [a1, hF] at z
      exact K gq gf a23 a24 q qf F hq hF hk rfl (dc_lq_on P L hk he ht hl j1 j2 (by rw [if_neg (by omega)]))
    · rw [a1, hF] at z
      refine ⟨v0, fun y ey => ?_⟩
      exact K gq y a23 a24 q qf j hq (by rw [ey]; exact a1) hk rfl (dc_lq_on P L hk he ht hl j1 j2 (by rw [if_pos (by omega)]))
  · have of : dc_Of len pt (H e) := fun j a b => on ⟨j, a, b⟩
    have a1 := Pi.2 (H e) hH of
    refine br_t (dc_lt'.mpr (by rw [a1, dc_i0]; omega)) ⟨v0, dc_bre (fun z => ?_) (fun z => ?_)⟩
    · rw [dc_i0] at z
      obtain ⟨r1, L'⟩ := dc_lq_new (x := (1 : Int32).toInt) (y := p0.toInt) L hkl hk he ht hl hH of z dc_i1 hp
      refine br_f (fun z => by rw [dc_le, en, hq] at z; omega) ⟨v0, fun b24 e24 => ⟨dc_in hq (by omega), fun b23 e23 => fun y ey => ?_⟩⟩
      rw [dc_cl hq] at e23
      subst e24 e23 ey
      refine K _ _ _ _ (q + 1) (dc_nu qf q (H e)) F (dc_inc hq (by omega)) hF (by omega) (dc_nu_n (by omega)) ?_
      rw [dc_ti_upd, dc_ti_upd]
      exact L'
    · rw [dc_i0] at z
      exact K gq gf a23 a24 q qf F hq hF hk rfl (dc_lq_old L hl of z)
theorem dc_lv45 {post : St2 → Prop} {J : Int32 → Int32 → Int32 → Int32 → Int32 → Int32 → Int32 → (Nat → Int32) → (Nat → Int32) → (Nat → Int32) → (Nat → Int32) → (Nat → Int32) → (Nat → Int32) → (Nat → Int32) → (Nat → Int32) → (Nat → Int32) → (Nat → Int32) → (Nat → Int32) → (Nat → Int32) → (Nat → Int32) → (Nat → Int32) → (Nat → Int32) → (Nat → Int32) → (Nat → Int32) → (Nat → Int32) → (Nat → Int32) → (Nat → Int32) → (Nat → Int32) → (Nat → Int32) → (Nat → Int32) → (Nat → Int32) → Prop} {gn ge gr gc : Int32} {a1 a2 a3 a4 a5 a6 a7 a8 a9 a10 a11 a12 a13 a14 a15 a16 a17 a18 a19 a20 a21 a22 : Nat → Int32} {n m v len k kk : Nat} {T H pt : Nat → Nat} {fr : Nat → Int} {x2 : Int32} (g : dc_G n m T H gn ge a1 a2)
    (hch : ∀ e, e < m → dc_Nx T (T e) (e + 1) m (dc_ti a4 e)) (P : dc_Pt n m T H v len pt fr) (Pi : dc_Pi n len pt a21) (hkl : k ≤ len) (hx2 : x2.toInt = (kk : Int))
    (K : ∀ gq gf a23 a24 q qf F, ∀ y : Int32, gq.toInt = ((q : Nat) : Int) → gf.toInt = ((F : Nat) : Int) → y.toInt = ((kk + 1 : Nat) : Int) → dc_Lq n m T H len pt k q (kk + 1) 0 qf F (dc_ti a24) (dc_ti a23) → J y gn ge gr gc gq gf a1 a2 a3 a4 a5 a6 a7 a8 a9 a10 a11 a12 a13 a14 a15 a16 a17 a18 a19 a20 a21 a22 a23 a24) :
    ∀ (f c lo : Nat) (x3 x4 gq gf : Int32) (a23 a24 : Nat → Int32) (q : Nat) (qf : Nat → Nat) (F : Nat), m < lo + f → c ≤ lo → lo ≤ m → dc_Nx T (qf kk) lo m x3.toInt → x4.toInt = (c : Int) → gq.toInt = (q : Int) → gf.toInt = (F : Int) → kk < q →
      dc_Lq n m T H len pt k q kk lo qf F (dc_ti a24) (dc_ti a23) → wX_leave_45 post J x2 f x3 x4 gn ge gr gc gq gf a1 a2 a3 a4 a5 a6 a7 a8 a9 a10 a11 a12 a13 a14 a15 a16 a17 a18 a19 a20 a21 a22 a23 a24 := by
  obtain ⟨n2, n24, m60, en, em, ed⟩ := id g
  intro f
  induction f with
  | zero => intro c lo x3 x4 gq gf a23 a24 q qf F hf _ hl; exact absurd hf (by omega)
  | succ f ih =>
    intro c lo x3 x4 gq gf a23 a24 q qf F hf hc hl hx3 hx4 hq hF hk L
    have qn := L.1.2.1
    have hy2 : (x2 + 1).toInt = ((kk + 1 : Nat) : Int) := dc_inc hx2 (by omega)
    refine dc_brl (fun z => ?_) (fun z => ?_)
    · rw [dc_i60, hx4] at z
      intro y ey
      subst ey
      exact K gq gf a23 a24 q qf F _ hq hF hy2 (dc_lq_next L (fun j a b => by omega))
    · refine dc_bre (fun w => ?_) (fun w => ?_)
      · rw [dc_im1] at w
        intro y ey
        subst ey
        exact K gq gf a23 a24 q qf F _ hq hF hy2 (dc_lq_next L (dc_nx_none hx3 w))
      · rw [dc_im1] at w
        obtain ⟨e, e1, e2, e3, e4, e5⟩ := dc_nx_some hx3 w
        obtain ⟨t1, t2, t3, t4⟩ := ed e e3
        have v3 : vp_in x3 60 := dc_in e1 (by omega)
        have hy4 : (x4 + 1).toInt = ((c + 1 : Nat) : Int) := dc_inc hx4 (by omega)
        have hnx : dc_Nx T (qf kk) (e + 1) m (dc_ti a4 e) := by
          have := hch e e3
          rw [e4] at this
          exact this
        rw [dc_cl e1]
        refine ⟨v3, ?_⟩
        refine dc_detour n24 en P Pi hkl e3 e4 e5 t4 t3 hq hF hk L (fun gq gf a23 a24 q qf' F hq hF hk hqf L' => ?_)
        refine And.intro v3 (fun y3 ey3 => fun y4 ey4 => ?_)
        subst ey3 ey4
        exact ih (c + 1) (e + 1) _ _ gq gf a23 a24 q qf' F (by omega) (by omega) (by omega) (by rw [hqf]; exact hnx) hy4 hq hF hk L'
theorem dc_lv14 {post : St2 → Prop} {gn ge gr gc : Int32} {a1 a2 a3 a4 a5 a6 a7 a8 a9 a10 a11 a12 a13 a14 a15 a16 a17 a18 a19 a20 a21 a22 : Nat → Int32} {n m v len k : Nat} {T H pt : Nat → Nat} {fr : Nat → Int} (g : dc_G n m T H gn ge a1 a2) (hch : dc_Ch n m T (dc_ti a3) (dc_ti a4) 0)
    (P : dc_Pt n m T H v len pt fr) (Pi : dc_Pi n len pt a21) (hkl : k ≤ len)
    (K : ∀ gq gf a23 a24 F, gf.toInt = ((F : Nat) : Int) → dc_So n m T H len pt (k + 1) F (dc_ti a24) → dc_Cl n m T H len pt (k + 1) F (dc_ti a24) → post (gn, ge, gr, gc, gq, gf, a1, a2, a3, a4, a5, a6, a7, a8, a9, a10, a11, a12, a13, a14, a15, a16, a17, a18, a19, a20, a21, a22, a23, a24)) :
    ∀ (f kk : Nat) (x2 gq gf : Int32) (a23 a24 : Nat → Int32) (q : Nat) (qf : Nat → Nat) (F : Nat), n < kk + f → kk ≤ n → x2.toInt = (kk : Int) → gq.toInt = (q : Int) → gf.toInt = (F : Int) →
      dc_Lq n m T H len pt k q kk 0 qf F (dc_ti a24) (dc_ti a23) → wX_leave_14 post f x2 gn ge gr gc gq gf a1 a2 a3 a4 a5 a6 a7 a8 a9 a10 a11 a12 a13 a14 a15 a16 a17 a18 a19 a20 a21 a22 a23 a24 := by
  obtain ⟨n2, n24, m60, en, em, ed⟩ := id g
  intro f
  induction f with
  | zero => intro kk x2 gq gf a23 a24 q qf F hf hk; exact absurd hf (by omega)
  | succ f ih =>
    intro kk x2 gq gf a23 a24 q qf F hf hk hx2 hq hF L
    have qn := L.1.2.1
    refine dc_brl (fun z => ?_) (fun z => ?_)
    · rw [en, hx2] at z
      obtain ⟨S, C⟩ := dc_lq_end L (by omega)
      exact K gq gf a23 a24 F hF S C
    · refine dc_brl (fun w => ?_) (fun w => ?_)
      · rw [hq, hx2] at w
        obtain ⟨S, C⟩ := dc_lq_end L (by omega)
        exact K gq gf a23 a24 F hF S C
      · rw [hq, hx2] at w
        have hkq : kk < q := by omega
        obtain ⟨b1, b2, _⟩ := L.2.1 kk hkq
        have b3 : (a23 kk).toInt = (qf kk : Int) := b2
        rw [dc_cl hx2, dc_cl b3]
        refine ⟨dc_in hx2 (by omega), dc_in b3 (by omega), fun x3 e3 => ⟨m + 1, ?_⟩⟩
        refine dc_lv45 g (fun e he => hch.2 e (Nat.zero_le e) he) P Pi hkl hx2 (fun gq gf a23 a24 q qf F y hq hF hy L' => ?_) (m + 1) 0 0 x3 0 gq gf a23 a24 q qf F (by omega) (by omega) (by omega) ?_ dc_i0' hq hF hkq L
        · exact ih (kk + 1) y gq gf a23 a24 q qf F (by omega) (by have := L'.1.2.1; omega) hy hq hF L'
        · rw [e3]
          exact hch.1 (qf kk) b1
theorem dc_leave {post : St2 → Prop} {gn ge gr gc gq gf : Int32} {a1 a2 a3 a4 a5 a6 a7 a8 a9 a10 a11 a12 a13 a14 a15 a16 a17 a18 a19 a20 a21 a22 a23 a24 : Nat → Int32} {n m v len k F : Nat} {T H pt : Nat → Nat} {fr : Nat → Int} {p0 : Int32} (g : dc_G n m T H gn ge a1 a2) (hch : dc_Ch n m T (dc_ti a3) (dc_ti a4) 0)
    (P : dc_Pt n m T H v len pt fr) (Pi : dc_Pi n len pt a21) (hkl : k ≤ len) (hp : p0.toInt = (pt k : Int)) (hF : gf.toInt = (F : Int)) (S : dc_So n m T H len pt k F (dc_ti a24)) (C : dc_Cl n m T H len pt k F (dc_ti a24))
    (K : ∀ gq gf a23 a24 F, gf.toInt = ((F : Nat) : Int) → dc_So n m T H len pt (k + 1) F (dc_ti a24) → dc_Cl n m T H len pt (k + 1) F (dc_ti a24) → post (gn, ge, gr, gc, gq, gf, a1, a2, a3, a4, a5, a6, a7, a8, a9, a10, a11, a12, a13, a14, a15, a16, a17, a18, a19, a20, a21, a22, a23, a24)) : wpX_leave post (gn, ge, gr, gc, gq, gf, a1, a2, a3, a4, a5, a6, a7, a8, a9, a10, a11, a12, a13, a14, a15, a16, a17, a18, a19, a20, a21, a22, a23, a24) p0 := by
  unfold wpX_leave
  intro b23 e23
  refine ⟨n + 1, ?_⟩
  refine dc_lv14 g hch P Pi hkl K (n + 1) 0 0 1 gf b23 a24 1 (fun _ => pt k) F (by omega) (by omega) dc_i0' dc_i1' hF (dc_lq_0 P hkl S C ?_ rfl)
  rw [e23]
  show (upd a23 0 p0 0).toInt = _
  rw [pk_us]
  exact hp
end
section
theorem dc_sw122 {post : Int32 → St2 → Prop} {gn ge gr gc : Int32} {a1 a2 a3 a4 a5 a6 a7 a8 a9 a10 a11 a12 a13 a14 a15 a16 a17 a18 a19 a20 a21 a22 : Nat → Int32} {n m v len : Nat} {T H pt : Nat → Nat} {fr : Nat → Int} {x2 : Int32} (g : dc_G n m T H gn ge a1 a2) (hch : dc_Ch n m T (dc_ti a3) (dc_ti a4) 0)
    (P : dc_Pt n m T H v len pt fr) (Pi : dc_Pi n len pt a21) (h8 : ∀ i, i ≤ len → (a8 i).toInt = (pt i : Int)) (hx2 : x2.toInt = (len : Int))
    (K : ∀ res gq gf a23 a24, res.toInt = (dc_D n m T H v : Int) → post res (gn, ge, gr, gc, gq, gf, a1, a2, a3, a4, a5, a6, a7, a8, a9, a10, a11, a12, a13, a14, a15, a16, a17, a18, a19, a20, a21, a22, a23, a24)) :
    ∀ (j k : Nat) (x4 x5 gq gf : Int32) (a23 a24 : Nat → Int32) (F : Nat), k + j = len → x5.toInt = (k : Int) → x4.toInt = ((1 + dc_cn (fun i => ¬ dc_Av (dc_Ed m T H) (pt (i + 1)) v) k : Nat) : Int) → gf.toInt = (F : Int) →
      dc_So n m T H len pt k F (dc_ti a24) → dc_Cl n m T H len pt k F (dc_ti a24) → wX_sweep_122 post x2 (j + 1) x4 x5 gn ge gr gc gq gf a1 a2 a3 a4 a5 a6 a7 a8 a9 a10 a11 a12 a13 a14 a15 a16 a17 a18 a19 a20 a21 a22 a23 a24 := by
  obtain ⟨n2, n24, m60, en, em, ed⟩ := id g
  have ln := dc_pt_len P
  intro j
  induction j with
  | zero =>
    intro k x4 x5 gq gf a23 a24 F hj hx5 hx4 hF S C
    refine br_t (dc_le.mpr (by omega)) (K x4 gq gf a23 a24 ?_)
    rw [hx4, dc_sw_sum P, show k = len by omega]
  | succ j ih =>
    intro k x4 x5 gq gf a23 a24 F hj hx5 hx4 hF S C
    have hk : k < len := by omega
    have cl := dc_cn_le (fun i => ¬ dc_Av (dc_Ed m T H) (pt (i + 1)) v) k
    refine br_f (fun z => by rw [dc_le] at z; omega) ?_
    rw [dc_cl hx5]
    refine ⟨dc_in hx5 (by omega), ?_⟩
    refine dc_leave g hch P Pi (by omega) (h8 k (by omega)) hF S C (fun gq gf a23 a24 F hF S C => ?_)
    obtain ⟨d1, d2⟩ := dc_sw_dom P (fun e he => ⟨(ed e he).2.1, (ed e he).2.2.2⟩) hk S C
    have hy5 : (x5 + 1).toInt = ((k + 1 : Nat) : Int) := dc_inc hx5 (by omega)
    refine dc_bre (fun z => ?_) (fun z => ?_)
    · rw [hF, hy5] at z
      have hd := d2.mp (by omega)
      intro y4 ey4 y5 ey5
      subst ey4 ey5
      refine ih (k + 1) _ _ gq gf a23 a24 F (by omega) hy5 ?_ hF S C
      rw [dc_cn_t (P := fun i => ¬ dc_Av (dc_Ed m T H) (pt (i + 1)) v) hd, dc_inc hx4 (by omega)]
      omega
    · rw [hF, hy5] at z
      have hd := fun h => z (by have := d2.mpr h; omega)
      intro y5 ey5
      subst ey5
      refine ih (k + 1) _ _ gq gf a23 a24 F (by omega) hy5 ?_ hF S C
      rw [dc_cn_f (P := fun i => ¬ dc_Av (dc_Ed m T H) (pt (i + 1)) v) hd]
      exact hx4
end
section
theorem dc_i1c (P : Nat → Prop) : (1 : Int32).toInt = ((1 + dc_cn P 0 : Nat) : Int) := by
  have e : dc_cn P 0 = 0 := rfl
  rw [e, dc_i1]
  omega
theorem dc_dec {x : Int32} {k : Nat} (h : x.toInt = (k : Int)) (hk : k < 1000000) : (x + (-1)).toInt = (k : Int) - 1 :=
  dc_add (by rw [h, dc_im1]; omega) (by omega) (by omega)
theorem dc_sw68 {post : Int32 → St2 → Prop} {gn ge gr gc gq gf : Int32} {a1 a2 a3 a4 a5 a6 a7 a9 a10 a11 a12 a13 a14 a15 a16 a17 a18 a19 a20 a22 a23 a24 : Nat → Int32} {n m v len : Nat} {T H pt : Nat → Nat} {x2 : Int32} (g : dc_G n m T H gn ge a1 a2) (hch : dc_Ch n m T (dc_ti a3) (dc_ti a4) 0)
    (P : dc_Pt n m T H v len pt (dc_ti a22)) (hx2 : x2.toInt = (len : Int)) (h24 : ∀ v, v < n → (a24 v).toInt = 0)
    (K : ∀ res gq gf a8 a21 a23 a24, res.toInt = (dc_D n m T H v : Int) → post res (gn, ge, gr, gc, gq, gf, a1, a2, a3, a4, a5, a6, a7, a8, a9, a10, a11, a12, a13, a14, a15, a16, a17, a18, a19, a20, a21, a22, a23, a24)) :
    ∀ (k : Nat) (x3 x4 : Int32) (a8 a21 : Nat → Int32), k ≤ len + 1 → x4.toInt = (k : Int) - 1 → (0 < k → x3.toInt = (pt (k - 1) : Int)) →
      (∀ i, k ≤ i → i ≤ len → (a21 (pt i)).toInt = (i : Int) ∧ (a8 i).toInt = (pt i : Int)) → (∀ v, v < n → (∀ i, k ≤ i → i ≤ len → v ≠ pt i) → (a21 v).toInt = -1) →
      wX_sweep_68 post x2 gn ge gr gc gq gf (k + 1) x3 x4 a1 a2 a3 a4 a5 a6 a7 a8 a9 a10 a11 a12 a13 a14 a15 a16 a17 a18 a19 a20 a21 a22 a23 a24 := by
  obtain ⟨n2, n24, m60, en, em, ed⟩ := id g
  obtain ⟨p1, p2, p3, p4, p5⟩ := id P
  have ln := dc_pt_len P
  intro k
  induction k with
  | zero =>
    intro x3 x4 a8 a21 hk hx4 hx3 h1 h2
    refine br_t (dc_lt'.mpr (by rw [hx4, dc_i0]; omega)) ⟨len + 1, ?_⟩
    refine dc_sw122 g hch P ⟨fun i hi => (h1 i (by omega) hi).1, fun v hv ho => h2 v hv (fun i _ hi => ho i hi)⟩ (fun i hi => (h1 i (by omega) hi).2) hx2 (fun res gq gf a23 a24 => K res gq gf a8 a21 a23 a24) len 0 1 0 gq 0 a23 a24 0 (by omega) dc_i0' ?_ dc_i0' ⟨fun x hx hv => absurd (h24 x hx) hv, Or.inl rfl⟩ ?_
    · exact dc_i1c _
    · intro x hx hc
      rcases hc with ⟨i, i1, _⟩ | c
      · omega
      · exact absurd (h24 x hx) c
  | succ k ih =>
    intro x3 x4 a8 a21 hk hx4 hx3 h1 h2
    have hx4' : x4.toInt = (k : Int) := by omega
    have hx3' : x3.toInt = (pt k : Int) := hx3 (by omega)
    have pk := p4 k (by omega)
    have v3 : vp_in x3 24 := dc_in hx3' (by omega)
    have k25 : k < 1000000 := by omega
    refine br_f (fun z => by rw [dc_lt', hx4', dc_i0] at z; omega) ?_
    rw [dc_cl hx3', dc_cl hx4']
    refine ⟨v3, fun b21 e21 => ⟨dc_in hx4' (by omega), fun b8 e8 => ?_⟩⟩
    subst e21 e8
    have q1 : ∀ i, k ≤ i → i ≤ len → (upd a21 (pt k) x4 (pt i)).toInt = (i : Int) ∧ (upd a8 k x3 i).toInt = (pt i : Int) := by
      intro i a b
      by_cases z : i = k
      · rw [z, pk_us, pk_us]
        exact ⟨hx4', hx3'⟩
      · rw [pk_un z, pk_un (fun w => p5 k i (by omega) b w.symm)]
        exact h1 i (by omega) b
    have q2 : ∀ v, v < n → (∀ i, k ≤ i → i ≤ len → v ≠ pt i) → (upd a21 (pt k) x4 v).toInt = -1 := by
      intro v hv ho
      rw [pk_un (ho k (Nat.le_refl k) (by omega))]
      exact h2 v hv (fun i a b => ho i (by omega) b)
    refine dc_brl (fun z => ?_) (fun z => ?_)
    · rw [hx4', dc_i0] at z
      intro y4 ey4
      subst ey4
      exact ih _ _ _ _ (by omega) (dc_dec hx4' k25) (fun h => absurd h (by omega)) q1 q2
    · rw [hx4', dc_i0] at z
      obtain ⟨k', rfl⟩ : ∃ k', k = k' + 1 := ⟨k - 1, by omega⟩
      refine ⟨v3, fun y3 ey3 => fun y4 ey4 => ?_⟩
      subst ey3 ey4
      exact ih _ _ _ _ (by omega) (dc_dec hx4' k25) (fun _ => (p3 k' (by omega)).1) q1 q2
end
section
theorem dc_sw38 {post : Int32 → St2 → Prop} {gn ge gr gc gq gf : Int32} {a1 a2 a3 a4 a5 a6 a7 a8 a9 a10 a11 a12 a13 a14 a15 a16 a17 a18 a19 a20 a21 a22 a23 a24 : Nat → Int32} {n m v len : Nat} {T H pt : Nat → Nat} {x1 : Int32} (g : dc_G n m T H gn ge a1 a2) (hch : dc_Ch n m T (dc_ti a3) (dc_ti a4) 0)
    (P : dc_Pt n m T H v len pt (dc_ti a22)) (hx1 : x1.toInt = (v : Int)) (h21 : ∀ v, v < n → (a21 v).toInt = -1 ∧ (a24 v).toInt = 0)
    (K : ∀ res gq gf a8 a21 a23 a24, res.toInt = (dc_D n m T H v : Int) → post res (gn, ge, gr, gc, gq, gf, a1, a2, a3, a4, a5, a6, a7, a8, a9, a10, a11, a12, a13, a14, a15, a16, a17, a18, a19, a20, a21, a22, a23, a24)) :
    ∀ (j c : Nat) (x2 x3 : Int32), c + j = len → x2.toInt = (c : Int) → x3.toInt = (pt j : Int) → wX_sweep_38 post x1 gn ge gr gc gq gf a1 a2 a3 a4 a5 a6 a7 a8 a9 a10 a11 a12 a13 a14 a15 a16 a17 a18 a19 a20 a21 a22 a23 a24 (j + 1) x2 x3 := by
  obtain ⟨n2, n24, m60, en, em, ed⟩ := id g
  obtain ⟨p1, p2, p3, p4, p5⟩ := id P
  have ln := dc_pt_len P
  intro j
  induction j with
  | zero =>
    intro c x2 x3 hc hx2 hx3
    rw [p1] at hx3
    refine br_t (dc_eq.mpr (by rw [hx3, dc_i0]; omega)) ⟨len + 1 + 1, ?_⟩
    refine dc_sw68 g hch P (by rw [hx2]; omega) (fun v hv => (h21 v hv).2) K (len + 1) x1 x2 a8 a21 (by omega) (by omega) (fun _ => ?_) (fun i a b => by omega) (fun v hv _ => (h21 v hv).1)
    rw [hx1, show len + 1 - 1 = len by omega, p2]
  | succ j ih =>
    intro c x2 x3 hc hx2 hx3
    have z0 : pt (j + 1) ≠ 0 := fun z => p5 0 (j + 1) (by omega) (by omega) (by rw [p1, z])
    have pn := p4 (j + 1) (by omega)
    refine br_f (fun z => by rw [dc_eq, hx3, dc_i0] at z; omega) ?_
    refine br_f (fun z => by rw [dc_le, en, hx2] at z; omega) ?_
    intro y2 ey2
    rw [dc_cl hx3]
    refine ⟨dc_in hx3 (by omega), fun y3 ey3 => ?_⟩
    subst ey2 ey3
    exact ih (c + 1) _ _ (by omega) (dc_inc hx2 (by omega)) (p3 j (by omega)).1
theorem dc_sw6 {post : Int32 → St2 → Prop} {gn ge gr gc gq gf : Int32} {a1 a2 a3 a4 a5 a6 a7 a8 a9 a10 a11 a12 a13 a14 a15 a16 a17 a18 a19 a20 a22 a23 : Nat → Int32} {n m v len : Nat} {T H pt : Nat → Nat} {x1 : Int32} (g : dc_G n m T H gn ge a1 a2) (hch : dc_Ch n m T (dc_ti a3) (dc_ti a4) 0)
    (P : dc_Pt n m T H v len pt (dc_ti a22)) (hx1 : x1.toInt = (v : Int))
    (K : ∀ res gq gf a8 a21 a23 a24, res.toInt = (dc_D n m T H v : Int) → post res (gn, ge, gr, gc, gq, gf, a1, a2, a3, a4, a5, a6, a7, a8, a9, a10, a11, a12, a13, a14, a15, a16, a17, a18, a19, a20, a21, a22, a23, a24)) :
    ∀ (k i : Nat) (x2 : Int32) (a21 a24 : Nat → Int32), i + k = n → x2.toInt = (i : Int) → (∀ v, v < i → (a21 v).toInt = -1 ∧ (a24 v).toInt = 0) → wX_sweep_6 post x1 gn ge gr gc gq gf (k + 1) x2 a1 a2 a3 a4 a5 a6 a7 a8 a9 a10 a11 a12 a13 a14 a15 a16 a17 a18 a19 a20 a21 a22 a23 a24 := by
  obtain ⟨n2, n24, m60, en, em, ed⟩ := id g
  intro k
  induction k with
  | zero =>
    intro i x2 a21 a24 hk hx h
    exact br_t (dc_le.mpr (by omega)) ⟨len + 1, dc_sw38 g hch P hx1 (fun v hv => h v (by omega)) K len 0 0 x1 (by omega) dc_i0' (by rw [hx1, P.2.1])⟩
  | succ k ih =>
    intro i x2 a21 a24 hk hx h
    refine br_f (fun z => by rw [dc_le] at z; omega) ?_
    rw [dc_cl hx]
    have v2 : vp_in x2 24 := dc_in hx (by omega)
    refine ⟨v2, fun b21 e21 => ⟨v2, fun b24 e24 => fun y ey => ?_⟩⟩
    subst e21 e24 ey
    refine ih (i + 1) _ _ _ (by omega) (dc_inc hx (by omega)) (fun v hv => ?_)
    by_cases z : v = i
    · rw [z, pk_us, pk_us]; exact ⟨dc_im1, dc_i0⟩
    · rw [pk_un z, pk_un z]; exact h v (by omega)
theorem dc_sweep {post : Int32 → St2 → Prop} {gn ge gr gc gq gf : Int32} {a1 a2 a3 a4 a5 a6 a7 a8 a9 a10 a11 a12 a13 a14 a15 a16 a17 a18 a19 a20 a21 a22 a23 a24 : Nat → Int32} {n m v : Nat} {T H : Nat → Nat} {p0 : Int32} (g : dc_G n m T H gn ge a1 a2) (hch : dc_Ch n m T (dc_ti a3) (dc_ti a4) 0)
    (hv : dc_Rp (dc_Ed m T H) (fun _ => True) 0 v) (hp : p0.toInt = (v : Int))
    (K : ∀ res gq gf a8 a21 a22 a23 a24, res.toInt = (dc_D n m T H v : Int) → post res (gn, ge, gr, gc, gq, gf, a1, a2, a3, a4, a5, a6, a7, a8, a9, a10, a11, a12, a13, a14, a15, a16, a17, a18, a19, a20, a21, a22, a23, a24)) : wpX_sweep post (gn, ge, gr, gc, gq, gf, a1, a2, a3, a4, a5, a6, a7, a8, a9, a10, a11, a12, a13, a14, a15, a16, a17, a18, a19, a20, a21, a22, a23, a24) p0 := by
  unfold wpX_sweep
  refine dc_breadthFirst g hch (fun gq a22 a23 hpt => ?_)
  obtain ⟨len, pt, P⟩ := hpt v hv
  exact ⟨n + 1, dc_sw6 g hch P hp (fun res gq gf a8 a21 a23 a24 => K res gq gf a8 a21 a22 a23 a24) n 0 0 a21 a24 (by omega) dc_i0' (fun v hv => absurd hv (by omega))⟩
end
section
theorem dc_refreshE {post : St2 → Prop} {gn ge gr gc gq gf : Int32} {a1 a2 a3 a4 a5 a6 a7 a8 a9 a10 a11 a12 a13 a14 a15 a16 a17 a18 a19 a20 a21 a22 a23 a24 : Nat → Int32} (hc : ¬ gc = 0) (K : post (gn, ge, gr, gc, gq, gf, a1, a2, a3, a4, a5, a6, a7, a8, a9, a10, a11, a12, a13, a14, a15, a16, a17, a18, a19, a20, a21, a22, a23, a24)) : wpX_refresh post (gn, ge, gr, gc, gq, gf, a1, a2, a3, a4, a5, a6, a7, a8, a9, a10, a11, a12, a13, a14, a15, a16, a17, a18, a19, a20, a21, a22, a23, a24) := by
  unfold wpX_refresh
  exact br_f hc K
theorem dc_refreshQ {post : St2 → Prop} {gn ge gr gc gq gf : Int32} {a1 a2 a3 a4 a5 a6 a7 a8 a9 a10 a11 a12 a13 a14 a15 a16 a17 a18 a19 a20 a21 a22 a23 a24 : Nat → Int32} {n m : Nat} {T H : Nat → Nat} (Q : (Nat → Int32) → (Nat → Int32) → Prop) (h : dc_Ok n m T H gn ge gr gc a1 a2 a3 a4 a9 a17 a19 a20)
    (h1 : ¬ gc = 0 → Q a9 a17) (h2 : gc = 0 → ∀ gr a3 a4 a9 a17 a19 a20, dc_Fr n m T H gr a3 a4 a9 a17 a19 a20 → Q a9 a17)
    (K : ∀ gr gc a3 a4 a5 a6 a7 a8 a9 a10 a11 a12 a13 a14 a15 a16 a17 a18 a19 a20, ¬ gc = 0 → dc_Fr n m T H gr a3 a4 a9 a17 a19 a20 → Q a9 a17 → post (gn, ge, gr, gc, gq, gf, a1, a2, a3, a4, a5, a6, a7, a8, a9, a10, a11, a12, a13, a14, a15, a16, a17, a18, a19, a20, a21, a22, a23, a24)) : wpX_refresh post (gn, ge, gr, gc, gq, gf, a1, a2, a3, a4, a5, a6, a7, a8, a9, a10, a11, a12, a13, a14, a15, a16, a17, a18, a19, a20, a21, a22, a23, a24) := by
  by_cases hc : gc = 0
  · exact dc_refresh h (fun gr gc a3 a4 a5 a6 a7 a8 a9 a10 a11 a12 a13 a14 a15 a16 a17 a18 a19 a20 k1 k2 => K gr gc a3 a4 a5 a6 a7 a8 a9 a10 a11 a12 a13 a14 a15 a16 a17 a18 a19 a20 k1 k2 (h2 hc _ _ _ _ _ _ _ k2))
  · exact dc_refreshE hc (K gr gc a3 a4 a5 a6 a7 a8 a9 a10 a11 a12 a13 a14 a15 a16 a17 a18 a19 a20 hc (h.2.resolve_left hc) (h1 hc))
theorem dc_isVertex {post : Int32 → Prop} {gn ge gr gc gq gf : Int32} {a1 a2 a3 a4 a5 a6 a7 a8 a9 a10 a11 a12 a13 a14 a15 a16 a17 a18 a19 a20 a21 a22 a23 a24 : Nat → Int32} {n v : Nat} {p0 : Int32} (en : gn.toInt = (n : Int)) (hp : p0.toInt = (v : Int)) (hv : v < n) (K : post 1) : wpX_isVertex post (gn, ge, gr, gc, gq, gf, a1, a2, a3, a4, a5, a6, a7, a8, a9, a10, a11, a12, a13, a14, a15, a16, a17, a18, a19, a20, a21, a22, a23, a24) p0 := by
  unfold wpX_isVertex
  exact br_f (fun z => by rw [dc_lt', hp, dc_i0] at z; omega) (br_f (fun z => by rw [dc_le, en, hp] at z; omega) K)
theorem dc_reachable {post : Int32 → St2 → Prop} {gn ge gr gc gq gf : Int32} {a1 a2 a3 a4 a5 a6 a7 a8 a9 a10 a11 a12 a13 a14 a15 a16 a17 a18 a19 a20 a21 a22 a23 a24 : Nat → Int32} {n m v : Nat} {T H : Nat → Nat} {p0 : Int32} (Q : (Nat → Int32) → (Nat → Int32) → Prop) (h : dc_Ok n m T H gn ge gr gc a1 a2 a3 a4 a9 a17 a19 a20) (hp : p0.toInt = (v : Int)) (hv : v < n)
    (h1 : ¬ gc = 0 → Q a9 a17) (h2 : gc = 0 → ∀ gr a3 a4 a9 a17 a19 a20, dc_Fr n m T H gr a3 a4 a9 a17 a19 a20 → Q a9 a17)
    (K : ∀ gr gc a3 a4 a5 a6 a7 a8 a9 a10 a11 a12 a13 a14 a15 a16 a17 a18 a19 a20, ¬ gc = 0 → dc_Fr n m T H gr a3 a4 a9 a17 a19 a20 → Q a9 a17 →
      ((a9 v).toInt < 0 → post 0 (gn, ge, gr, gc, gq, gf, a1, a2, a3, a4, a5, a6, a7, a8, a9, a10, a11, a12, a13, a14, a15, a16, a17, a18, a19, a20, a21, a22, a23, a24)) ∧ (0 ≤ (a9 v).toInt → post 1 (gn, ge, gr, gc, gq, gf, a1, a2, a3, a4, a5, a6, a7, a8, a9, a10, a11, a12, a13, a14, a15, a16, a17, a18, a19, a20, a21, a22, a23, a24))) : wpX_reachable post (gn, ge, gr, gc, gq, gf, a1, a2, a3, a4, a5, a6, a7, a8, a9, a10, a11, a12, a13, a14, a15, a16, a17, a18, a19, a20, a21, a22, a23, a24) p0 := by
  have n24 := h.1.2.1
  unfold wpX_reachable
  refine dc_isVertex h.1.2.2.2.1 hp hv (br_f (by decide) ?_)
  refine dc_refreshQ Q h h1 h2 (fun gr gc a3 a4 a5 a6 a7 a8 a9 a10 a11 a12 a13 a14 a15 a16 a17 a18 a19 a20 k1 k2 k3 => ?_)
  refine And.intro (dc_in hp (by omega)) ?_
  rw [dc_cl hp]
  obtain ⟨q1, q2⟩ := K gr gc a3 a4 a5 a6 a7 a8 a9 a10 a11 a12 a13 a14 a15 a16 a17 a18 a19 a20 k1 k2 k3
  exact dc_brt (fun z => q1 (by rw [dc_i0] at z; exact z)) (fun z => q2 (by rw [dc_i0] at z; exact z))
theorem dc_reachableCount {post : Int32 → St2 → Prop} {gn ge gr gc gq gf : Int32} {a1 a2 a3 a4 a5 a6 a7 a8 a9 a10 a11 a12 a13 a14 a15 a16 a17 a18 a19 a20 a21 a22 a23 a24 : Nat → Int32} (hc : ¬ gc = 0) (K : post gr (gn, ge, gr, gc, gq, gf, a1, a2, a3, a4, a5, a6, a7, a8, a9, a10, a11, a12, a13, a14, a15, a16, a17, a18, a19, a20, a21, a22, a23, a24)) : wpX_reachableCount post (gn, ge, gr, gc, gq, gf, a1, a2, a3, a4, a5, a6, a7, a8, a9, a10, a11, a12, a13, a14, a15, a16, a17, a18, a19, a20, a21, a22, a23, a24) := by
  unfold wpX_reachableCount
  exact dc_refreshE hc K
theorem dc_ch30 {post : Int32 → St2 → Prop} {gn ge gr gc gq gf : Int32} {a1 a2 a3 a4 a5 a6 a7 a8 a9 a10 a11 a12 a13 a14 a15 a16 a17 a18 a19 a20 a21 a22 a23 a24 : Nat → Int32} {n v : Nat} {x1 : Int32} (n24 : n ≤ 24) (en : gn.toInt = (n : Int)) (hx1 : x1.toInt = (v : Int))
    (K : ∀ res, res.toInt = (dc_cn (fun w => 0 < (a9 w).toInt ∧ (a17 w).toInt = (v : Int)) n : Int) → post res (gn, ge, gr, gc, gq, gf, a1, a2, a3, a4, a5, a6, a7, a8, a9, a10, a11, a12, a13, a14, a15, a16, a17, a18, a19, a20, a21, a22, a23, a24)) :
    ∀ (j k : Nat) (x2 x3 : Int32), k + j = n → x3.toInt = (k : Int) → x2.toInt = (dc_cn (fun w => 0 < (a9 w).toInt ∧ (a17 w).toInt = (v : Int)) k : Int) → wX_children_30 post x1 gn ge gr gc gq gf a1 a2 a3 a4 a5 a6 a7 a8 a9 a10 a11 a12 a13 a14 a15 a16 a17 a18 a19 a20 a21 a22 a23 a24 (j + 1) x2 x3 := by
  intro j
  induction j with
  | zero =>
    intro k x2 x3 hj hx3 hx2
    exact br_t (dc_le.mpr (by omega)) (K x2 (by rw [hx2, show k = n by omega]))
  | succ j ih =>
    intro k x2 x3 hj hx3 hx2
    have cl := dc_cn_le (fun w => 0 < (a9 w).toInt ∧ (a17 w).toInt = (v : Int)) k
    refine br_f (fun z => by rw [dc_le] at z; omega) ?_
    rw [dc_cl hx3]
    have v3 : vp_in x3 24 := dc_in hx3 (by omega)
    refine ⟨v3, dc_brl (fun z => ?_) (fun z => ?_)⟩
    · rw [dc_i0] at z
      intro y ey
      subst ey
      refine ih (k + 1) _ _ (by omega) (dc_inc hx3 (by omega)) ?_
      rw [dc_cn_f (P := fun w => 0 < (a9 w).toInt ∧ (a17 w).toInt = (v : Int)) (fun h => absurd h.1 (by omega))]
      exact hx2
    · rw [dc_i0] at z
      refine ⟨v3, dc_bre (fun w => ?_) (fun w => ?_)⟩
      · rw [hx1] at w
        intro y2 ey2 y3 ey3
        subst ey2 ey3
        refine ih (k + 1) _ _ (by omega) (dc_inc hx3 (by omega)) ?_
        rw [dc_cn_t (P := fun w => 0 < (a9 w).toInt ∧ (a17 w).toInt = (v : Int)) ⟨z, w⟩]
        exact dc_inc hx2 (by omega)
      · rw [hx1] at w
        intro y3 ey3
        subst ey3
        refine ih (k + 1) _ _ (by omega) (dc_inc hx3 (by omega)) ?_
        rw [dc_cn_f (P := fun w => 0 < (a9 w).toInt ∧ (a17 w).toInt = (v : Int)) (fun h => w h.2)]
        exact hx2
theorem dc_children {post : Int32 → St2 → Prop} {gn ge gr gc gq gf : Int32} {a1 a2 a3 a4 a5 a6 a7 a8 a9 a10 a11 a12 a13 a14 a15 a16 a17 a18 a19 a20 a21 a22 a23 a24 : Nat → Int32} {n m v : Nat} {T H : Nat → Nat} {p0 : Int32} (g : dc_G n m T H gn ge a1 a2) (hc : ¬ gc = 0) (h0 : (a9 0).toInt = 0) (hp : p0.toInt = (v : Int)) (hv : v < n) (hr : 0 ≤ (a9 v).toInt)
    (K : ∀ res, res.toInt = (dc_cn (fun w => 0 < (a9 w).toInt ∧ (a17 w).toInt = (v : Int)) n : Int) → post res (gn, ge, gr, gc, gq, gf, a1, a2, a3, a4, a5, a6, a7, a8, a9, a10, a11, a12, a13, a14, a15, a16, a17, a18, a19, a20, a21, a22, a23, a24)) : wpX_children post (gn, ge, gr, gc, gq, gf, a1, a2, a3, a4, a5, a6, a7, a8, a9, a10, a11, a12, a13, a14, a15, a16, a17, a18, a19, a20, a21, a22, a23, a24) p0 := by
  obtain ⟨n2, n24, m60, en, em, ed⟩ := id g
  unfold wpX_children
  refine dc_isVertex en hp hv (br_f (by decide) ?_)
  refine dc_refreshE hc ?_
  refine And.intro (dc_in hp (by omega)) ?_
  rw [dc_cl hp]
  refine br_t (dc_le.mpr (by rw [dc_i0]; exact hr)) ⟨n - 1 + 1, ?_⟩
  refine dc_ch30 n24 en hp K (n - 1) 1 0 1 (by omega) dc_i1' ?_
  rw [dc_cn_f (P := fun w => 0 < (a9 w).toInt ∧ (a17 w).toInt = (v : Int)) (fun h => absurd h.1 (by omega)), dc_i0]
  rfl
theorem dc_immediate {post : Int32 → St2 → Prop} {gn ge gr gc gq gf : Int32} {a1 a2 a3 a4 a5 a6 a7 a8 a9 a10 a11 a12 a13 a14 a15 a16 a17 a18 a19 a20 a21 a22 a23 a24 : Nat → Int32} {n m v : Nat} {T H : Nat → Nat} {p0 : Int32} (g : dc_G n m T H gn ge a1 a2) (hc : ¬ gc = 0) (hp : p0.toInt = (v : Int)) (hv : v < n) (v0 : v ≠ 0) (hr : 0 ≤ (a9 v).toInt)
    (K : post (a17 v) (gn, ge, gr, gc, gq, gf, a1, a2, a3, a4, a5, a6, a7, a8, a9, a10, a11, a12, a13, a14, a15, a16, a17, a18, a19, a20, a21, a22, a23, a24)) : wpX_immediate post (gn, ge, gr, gc, gq, gf, a1, a2, a3, a4, a5, a6, a7, a8, a9, a10, a11, a12, a13, a14, a15, a16, a17, a18, a19, a20, a21, a22, a23, a24) p0 := by
  obtain ⟨n2, n24, m60, en, em, ed⟩ := id g
  unfold wpX_immediate
  refine dc_isVertex en hp hv (br_f (by decide) ?_)
  refine dc_refreshE hc ?_
  refine And.intro (dc_in hp (by omega)) ?_
  rw [dc_cl hp]
  refine br_t (dc_le.mpr (by rw [dc_i0]; exact hr)) (br_f (fun z => by rw [dc_eq, hp, dc_i0] at z; omega) ⟨dc_in hp (by omega), K⟩)
theorem dc_common {post : Int32 → St2 → Prop} {gn ge gr gc gq gf : Int32} {a1 a2 a3 a4 a5 a6 a7 a8 a9 a10 a11 a12 a13 a14 a15 a16 a17 a18 a19 a20 a21 a22 a23 a24 : Nat → Int32} {n m v : Nat} {T H : Nat → Nat} {p0 : Int32} (g : dc_G n m T H gn ge a1 a2) (hc : ¬ gc = 0) (hf : dc_Fr n m T H gr a3 a4 a9 a17 a19 a20) (hp : p0.toInt = (v : Int)) (hv : v < n) (hr : 0 ≤ (a9 v).toInt)
    (K : ∀ res gq gf a8 a21 a22 a23 a24, res.toInt = (dc_D n m T H v : Int) → post res (gn, ge, gr, gc, gq, gf, a1, a2, a3, a4, a5, a6, a7, a8, a9, a10, a11, a12, a13, a14, a15, a16, a17, a18, a19, a20, a21, a22, a23, a24)) : wpX_common post (gn, ge, gr, gc, gq, gf, a1, a2, a3, a4, a5, a6, a7, a8, a9, a10, a11, a12, a13, a14, a15, a16, a17, a18, a19, a20, a21, a22, a23, a24) p0 := by
  obtain ⟨n2, n24, m60, en, em, ed⟩ := id g
  unfold wpX_common
  refine dc_isVertex en hp hv (br_f (by decide) ?_)
  refine dc_refreshE hc ?_
  refine And.intro (dc_in hp (by omega)) ?_
  rw [dc_cl hp]
  refine br_t (dc_le.mpr (by rw [dc_i0]; exact hr)) ?_
  exact dc_sweep g hf.1 (hf.2.2.2.2.1 v hv hr) hp K
/-- u is v or above it, by the stretches -/
def dc_Ov (a9 a19 a20 : Nat → Int32) (u v : Nat) : Prop := 0 ≤ (a9 u).toInt ∧ (a20 u).toInt ≤ (a20 v).toInt ∧ (a20 v).toInt < (a20 u).toInt + (a19 u).toInt
theorem dc_over' {post : Int32 → Prop} {gn ge gr gc gq gf : Int32} {a1 a2 a3 a4 a5 a6 a7 a8 a9 a10 a11 a12 a13 a14 a15 a16 a17 a18 a19 a20 a21 a22 a23 a24 : Nat → Int32} {n m u v : Nat} {T H : Nat → Nat} {p0 p1 : Int32} (g : dc_G n m T H gn ge a1 a2) (hf : dc_Fr n m T H gr a3 a4 a9 a17 a19 a20) (hp : p0.toInt = (u : Int)) (hu : u < n) (hp1 : p1.toInt = (v : Int)) (hv : v < n)
    (K0 : ¬ dc_Ov a9 a19 a20 u v → post 0) (K1 : dc_Ov a9 a19 a20 u v → post 1) : wpX_over post (gn, ge, gr, gc, gq, gf, a1, a2, a3, a4, a5, a6, a7, a8, a9, a10, a11, a12, a13, a14, a15, a16, a17, a18, a19, a20, a21, a22, a23, a24) p0 p1 := by
  obtain ⟨n2, n24, m60, en, em, ed⟩ := id g
  have v0 : vp_in p0 24 := dc_in hp (by omega)
  have v1 : vp_in p1 24 := dc_in hp1 (by omega)
  unfold wpX_over
  dsimp only
  rw [dc_cl hp, dc_cl hp1]
  refine ⟨v0, dc_brt (fun z => ?_) (fun z => ?_)⟩
  · rw [dc_i0] at z
    exact K0 (fun h => by have := h.1; omega)
  · rw [dc_i0] at z
    obtain ⟨b1, b2, b3⟩ := hf.2.2.2.2.2.1 u hu z
    have s : (a20 u + a19 u).toInt = (a20 u).toInt + (a19 u).toInt := dc_add rfl (by omega) (by omega)
    refine ⟨v0, v1, dc_brt (fun w => ?_) (fun w => ?_)⟩
    · exact K0 (fun h => by have := h.2.1; omega)
    · refine ⟨v1, v0, v0, dc_brl (fun y => ?_) (fun y => ?_)⟩
      · rw [s] at y
        exact K0 (fun h => by have := h.2.2; omega)
      · rw [s] at y
        exact K1 ⟨z, w, y⟩
theorem dc_dominates {post : Int32 → St2 → Prop} {gn ge gr gc gq gf : Int32} {a1 a2 a3 a4 a5 a6 a7 a8 a9 a10 a11 a12 a13 a14 a15 a16 a17 a18 a19 a20 a21 a22 a23 a24 : Nat → Int32} {n m u v : Nat} {T H : Nat → Nat} {p0 p1 : Int32} (g : dc_G n m T H gn ge a1 a2) (hc : ¬ gc = 0) (hf : dc_Fr n m T H gr a3 a4 a9 a17 a19 a20) (hp : p0.toInt = (u : Int)) (hu : u < n) (hp1 : p1.toInt = (v : Int)) (hv : v < n) (hr : 0 ≤ (a9 v).toInt)
    (K0 : ¬ dc_Ov a9 a19 a20 u v → post 0 (gn, ge, gr, gc, gq, gf, a1, a2, a3, a4, a5, a6, a7, a8, a9, a10, a11, a12, a13, a14, a15, a16, a17, a18, a19, a20, a21, a22, a23, a24)) (K1 : dc_Ov a9 a19 a20 u v → post 1 (gn, ge, gr, gc, gq, gf, a1, a2, a3, a4, a5, a6, a7, a8, a9, a10, a11, a12, a13, a14, a15, a16, a17, a18, a19, a20, a21, a22, a23, a24)) : wpX_dominates post (gn, ge, gr, gc, gq, gf, a1, a2, a3, a4, a5, a6, a7, a8, a9, a10, a11, a12, a13, a14, a15, a16, a17, a18, a19, a20, a21, a22, a23, a24) p0 p1 := by
  obtain ⟨n2, n24, m60, en, em, ed⟩ := id g
  unfold wpX_dominates
  refine dc_isVertex en hp hu (br_f (by decide) ?_)
  refine dc_isVertex en hp1 hv (br_f (by decide) ?_)
  refine dc_refreshE hc ?_
  refine And.intro (dc_in hp1 (by omega)) ?_
  rw [dc_cl hp1]
  refine br_t (dc_le.mpr (by rw [dc_i0]; exact hr)) ?_
  exact dc_over' g hf hp hu hp1 hv (fun h => br_t rfl (K0 h)) (fun h => br_f (by decide) (K1 h))
end
section
theorem dc_vx74 {post : Int32 → St2 → Prop} {J : Int32 → Int32 → Int32 → Int32 → Int32 → Int32 → Int32 → (Nat → Int32) → (Nat → Int32) → (Nat → Int32) → (Nat → Int32) → (Nat → Int32) → (Nat → Int32) → (Nat → Int32) → (Nat → Int32) → (Nat → Int32) → (Nat → Int32) → (Nat → Int32) → (Nat → Int32) → (Nat → Int32) → (Nat → Int32) → (Nat → Int32) → (Nat → Int32) → (Nat → Int32) → (Nat → Int32) → (Nat → Int32) → (Nat → Int32) → (Nat → Int32) → (Nat → Int32) → (Nat → Int32) → (Nat → Int32) → Prop} {gn ge gr gc gq gf : Int32} {a1 a2 a3 a4 a5 a6 a7 a8 a9 a10 a11 a12 a13 a14 a15 a16 a17 a18 a19 a20 a21 a22 a23 a24 : Nat → Int32} {n m u v : Nat} {T H : Nat → Nat} {x1 x2 x3 x5 z0 : Int32} (g : dc_G n m T H gn ge a1 a2) (hc : ¬ gc = 0) (hf : dc_Fr n m T H gr a3 a4 a9 a17 a19 a20)
    (hx1 : x1.toInt = (v : Int)) (hv : v < n) (hr : 0 ≤ (a9 v).toInt) (hx5 : x5.toInt = (u : Int)) (hu : u < n) (h0 : z0 = 0 → ¬ dc_Ov a9 a19 a20 u v) (h1 : ¬ z0 = 0 → dc_Ov a9 a19 a20 u v)
    (K : J (x5 + 1) gn ge gr gc gq gf a1 a2 a3 a4 a5 a6 a7 a8 a9 a10 a11 a12 a13 a14 a15 a16 a17 a18 a19 a20 a21 a22 a23 a24) : wL_vertex_74 post J x1 x2 x3 x5 z0 gn ge gr gc gq gf a1 a2 a3 a4 a5 a6 a7 a8 a9 a10 a11 a12 a13 a14 a15 a16 a17 a18 a19 a20 a21 a22 a23 a24 := by
  unfold wL_vertex_74
  refine dc_dominates g hc hf hx5 hu hx1 hv hr (fun ho => ?_) (fun ho => ?_)
  · have z : z0 = 0 := Classical.byContradiction (fun z => ho (h1 z))
    refine br_t z ?_
    unfold wL_vertex_93
    exact br_t rfl (fun y ey => by rw [ey]; exact K)
  · refine br_f (fun z => h0 z ho) ?_
    unfold wL_vertex_93
    exact br_t rfl (fun y ey => by rw [ey]; exact K)
theorem dc_vx46 {post : Int32 → St2 → Prop} {gn ge gr gc gq gf : Int32} {a1 a2 a3 a4 a5 a6 a7 a8 a9 a10 a11 a12 a13 a14 a15 a16 a17 a18 a19 a20 a21 a22 a23 a24 : Nat → Int32} {n m v d : Nat} {T H : Nat → Nat} {x1 x2 x3 : Int32} (g : dc_G n m T H gn ge a1 a2) (hc : ¬ gc = 0) (hf : dc_Fr n m T H gr a3 a4 a9 a17 a19 a20)
    (hx1 : x1.toInt = (v : Int)) (hx2 : x2.toInt = (n : Int)) (hx3 : x3.toInt = (d : Int)) (hv : v < n) (hr : 0 ≤ (a9 v).toInt) (hd : d < n) (hrd : 0 ≤ (a9 d).toInt)
    (hov : ∀ u, u < n → (dc_Ov a9 a19 a20 u v ↔ (u = v ∨ dc_Ov a9 a19 a20 u d))) (K : post 1 (gn, ge, gr, gc, gq, gf, a1, a2, a3, a4, a5, a6, a7, a8, a9, a10, a11, a12, a13, a14, a15, a16, a17, a18, a19, a20, a21, a22, a23, a24)) :
    ∀ (j k : Nat) (x5 : Int32), k + j = n → x5.toInt = (k : Int) → wL_vertex_46 post x1 x2 x3 (j + 1) x5 gn ge gr gc gq gf a1 a2 a3 a4 a5 a6 a7 a8 a9 a10 a11 a12 a13 a14 a15 a16 a17 a18 a19 a20 a21 a22 a23 a24 := by
  obtain ⟨n2, n24, m60, en, em, ed⟩ := id g
  intro j
  induction j with
  | zero =>
    intro k x5 hj hx5
    exact br_t (dc_le.mpr (by omega)) K
  | succ j ih =>
    intro k x5 hj hx5
    have hk : k < n := by omega
    refine br_f (fun z => by rw [dc_le] at z; omega) ?_
    have nxt := ih (k + 1) (x5 + 1) (by omega) (dc_inc hx5 (by omega))
    refine dc_bre (fun z => ?_) (fun z => ?_)
    · have e : k = v := by omega
      unfold wL_vertex_69
      exact dc_vx74 g hc hf hx1 hv hr hx5 hk (fun q => absurd q (by decide)) (fun _ => (hov k hk).mpr (Or.inl e)) nxt
    · have e : k ≠ v := by omega
      refine dc_dominates g hc hf hx5 hk hx3 hd hrd (fun ho => ?_) (fun ho => ?_)
      · refine br_f (by decide) ?_
        exact dc_vx74 g hc hf hx1 hv hr hx5 hk (fun _ q => ((hov k hk).mp q).elim e ho) (fun q => absurd rfl q) nxt
      · refine br_t rfl ?_
        unfold wL_vertex_69
        exact dc_vx74 g hc hf hx1 hv hr hx5 hk (fun q => absurd q (by decide)) (fun _ => (hov k hk).mpr (Or.inr ho)) nxt
theorem dc_vertex {post : Int32 → St2 → Prop} {gn ge gr gc gq gf : Int32} {a1 a2 a3 a4 a5 a6 a7 a8 a9 a10 a11 a12 a13 a14 a15 a16 a17 a18 a19 a20 a21 a22 a23 a24 : Nat → Int32} {n m v : Nat} {T H : Nat → Nat} {p1 p2 : Int32} (g : dc_G n m T H gn ge a1 a2) (hc : ¬ gc = 0) (hf : dc_Fr n m T H gr a3 a4 a9 a17 a19 a20)
    (hp1 : p1.toInt = (v : Int)) (hp2 : p2.toInt = (n : Int)) (hv : v < n) (v0 : v ≠ 0) (hr : 0 ≤ (a9 v).toInt) (K : ∀ gq gf a8 a21 a22 a23 a24, post 1 (gn, ge, gr, gc, gq, gf, a1, a2, a3, a4, a5, a6, a7, a8, a9, a10, a11, a12, a13, a14, a15, a16, a17, a18, a19, a20, a21, a22, a23, a24)) : wpL_vertex post (gn, ge, gr, gc, gq, gf, a1, a2, a3, a4, a5, a6, a7, a8, a9, a10, a11, a12, a13, a14, a15, a16, a17, a18, a19, a20, a21, a22, a23, a24) p1 p2 := by
  obtain ⟨n2, n24, m60, en, em, ed⟩ := id g
  obtain ⟨d, d1, d2, d3, d4, d5, d6, d7⟩ := hf.2.2.2.2.2.2 v hv v0 hr
  have Dv := dc_D_step hv d5 d6
  have Dl : dc_D n m T H d ≤ n := dc_cn_le _ n
  have hov : ∀ u, u < n → (dc_Ov a9 a19 a20 u v ↔ (u = v ∨ dc_Ov a9 a19 a20 u d)) := by
    intro u hu
    by_cases ru : 0 ≤ (a9 u).toInt
    · have q := d7 u hu ru
      unfold dc_Ov
      constructor
      · intro h
        rcases q.mp h.2 with w | w
        · exact Or.inl w
        · exact Or.inr ⟨ru, w⟩
      · intro h
        rcases h with w | w
        · exact ⟨ru, q.mpr (Or.inl w)⟩
        · exact ⟨ru, q.mpr (Or.inr w.2)⟩
    · constructor
      · intro h
        exact absurd h.1 ru
      · intro h
        rcases h with w | w
        · rw [w] at ru
          exact absurd hr ru
        · exact absurd w.1 ru
  unfold wpL_vertex
  refine dc_immediate g hc hp1 hv v0 hr ?_
  refine br_f (fun z => by rw [dc_lt', d2, dc_i0] at z; omega) ?_
  refine br_f (fun z => by rw [dc_le, hp2, d2] at z; omega) ?_
  refine br_f (fun z => by rw [dc_eq, hp1, d2] at z; omega) ?_
  refine dc_common g hc hf d2 d1 d4 (fun res gq gf a8 a21 a22 a23 a24 e1 => ?_)
  refine dc_common g hc hf hp1 hv hr (fun res2 gq gf a8 a21 a22 a23 a24 e2 => ?_)
  refine br_t (dc_eq.mpr ?_) ⟨n + 1, ?_⟩
  · rw [e2, Dv]
    exact (dc_inc e1 (by omega)).symm
  · exact dc_vx46 g hc hf hp1 hp2 d2 hv hr d1 d4 hov (K _ _ _ _ _ _ _) n 0 0 (by omega) dc_i0'
/-- those whose immediate dominator lies below k -/
def dc_Be (a9 a17 : Nat → Int32) (k w : Nat) : Prop := 0 < (a9 w).toInt ∧ (a17 w).toInt < (k : Int)
theorem dc_be_0 {n m : Nat} {T H : Nat → Nat} {gr : Int32} {a3 a4 a9 a17 a19 a20 : Nat → Int32} (hf : dc_Fr n m T H gr a3 a4 a9 a17 a19 a20) : dc_cn (dc_Be a9 a17 0) n = 0 := by
  refine dc_cn_zero (fun w hw h => ?_)
  have w0 : w ≠ 0 := fun e => by
    have := h.1
    rw [e, hf.2.2.1] at this
    omega
  obtain ⟨d, d1, d2, _⟩ := hf.2.2.2.2.2.2 w hw w0 (by have := h.1; omega)
  have := h.2
  omega
theorem dc_be_step {n m k : Nat} {T H : Nat → Nat} {gr : Int32} {a3 a4 a9 a17 a19 a20 : Nat → Int32} (hf : dc_Fr n m T H gr a3 a4 a9 a17 a19 a20) :
    dc_cn (dc_Be a9 a17 (k + 1)) n = dc_cn (dc_Be a9 a17 k) n + dc_cn (fun w => 0 < (a9 w).toInt ∧ (a17 w).toInt = (k : Int)) n := by
  refine dc_cn_add (fun w hw => ?_) (fun w hw h => ?_)
  · unfold dc_Be
    constructor
    · intro h
      have h2 := h.2
      by_cases e : (a17 w).toInt = (k : Int)
      · exact Or.inr ⟨h.1, e⟩
      · exact Or.inl ⟨h.1, by omega⟩
    · intro h
      rcases h with h | h
      · exact ⟨h.1, by have := h.2; omega⟩
      · exact ⟨h.1, by have := h.2; omega⟩
  · have h1 := h.1.2
    have h2 := h.2.2
    omega
theorem dc_be_skip {n m k : Nat} {T H : Nat → Nat} {gr : Int32} {a3 a4 a9 a17 a19 a20 : Nat → Int32} (hf : dc_Fr n m T H gr a3 a4 a9 a17 a19 a20) (hk : (a9 k).toInt < 0) :
    dc_cn (dc_Be a9 a17 (k + 1)) n = dc_cn (dc_Be a9 a17 k) n := by
  rw [dc_be_step hf, dc_cn_zero (P := fun w => 0 < (a9 w).toInt ∧ (a17 w).toInt = (k : Int)) (fun w hw h => ?_)]
  · rfl
  · have w0 : w ≠ 0 := fun e => by
      have := h.1
      rw [e, hf.2.2.1] at this
      omega
    obtain ⟨d, d1, d2, d3, d4, _⟩ := hf.2.2.2.2.2.2 w hw w0 (by have := h.1; omega)
    have := h.2
    have e : d = k := by omega
    rw [e] at d4
    omega
theorem dc_be_end {n m : Nat} {T H : Nat → Nat} {gr : Int32} {a3 a4 a9 a17 a19 a20 : Nat → Int32} (hf : dc_Fr n m T H gr a3 a4 a9 a17 a19 a20) (hn : 0 < n) :
    dc_cn (fun v => 0 ≤ (a9 v).toInt) n = dc_cn (dc_Be a9 a17 n) n + 1 := by
  refine dc_cn_ins (a := 0) hn (fun h => ?_) (fun w hw => ?_)
  · have := h.1
    rw [hf.2.2.1] at this
    omega
  · constructor
    · intro h
      by_cases w0 : w = 0
      · exact Or.inr w0
      · obtain ⟨d, d1, d2, _⟩ := hf.2.2.2.2.2.2 w hw w0 h
        exact Or.inl ⟨hf.2.2.2.1 w hw w0 h, by omega⟩
    · intro h
      rcases h with h | h
      · have := h.1
        omega
      · rw [h, hf.2.2.1]
        omega
theorem dc_h4 {post : Int32 → St2 → Prop} {gn ge : Int32} {a1 a2 : Nat → Int32} {n m : Nat} {T H : Nat → Nat} {x1 : Int32} (g : dc_G n m T H gn ge a1 a2) (hx1 : x1.toInt = (n : Int))
    (K : ∀ gr gc gq gf (a3 a4 a5 a6 a7 a8 a9 a10 a11 a12 a13 a14 a15 a16 a17 a18 a19 a20 a21 a22 a23 a24 : Nat → Int32), dc_Ok n m T H gn ge gr gc a1 a2 a3 a4 a9 a17 a19 a20 → post 1 (gn, ge, gr, gc, gq, gf, a1, a2, a3, a4, a5, a6, a7, a8, a9, a10, a11, a12, a13, a14, a15, a16, a17, a18, a19, a20, a21, a22, a23, a24)) :
    ∀ (j k : Nat) (x2 x3 gr gc gq gf : Int32) (a3 a4 a5 a6 a7 a8 a9 a10 a11 a12 a13 a14 a15 a16 a17 a18 a19 a20 a21 a22 a23 a24 : Nat → Int32), k + j = n → x3.toInt = (k : Int) → dc_Ok n m T H gn ge gr gc a1 a2 a3 a4 a9 a17 a19 a20 → (gc = 0 → k = 0 ∧ x2.toInt = 0) → (¬ gc = 0 → x2.toInt = (dc_cn (dc_Be a9 a17 k) n : Int)) →
      wL_holds_4 post x1 (j + 1) x2 x3 gn ge gr gc gq gf a1 a2 a3 a4 a5 a6 a7 a8 a9 a10 a11 a12 a13 a14 a15 a16 a17 a18 a19 a20 a21 a22 a23 a24 := by
  obtain ⟨n2, n24, m60, en, em, ed⟩ := id g
  intro j
  induction j with
  | zero =>
    intro k x2 x3 gr gc gq gf a3 a4 a5 a6 a7 a8 a9 a10 a11 a12 a13 a14 a15 a16 a17 a18 a19 a20 a21 a22 a23 a24 hj hx3 ok h1 h2
    refine br_t (dc_le.mpr (by omega)) ?_
    have hc : ¬ gc = 0 := fun z => by have := h1 z; omega
    have hf := ok.2.resolve_left hc
    refine dc_reachableCount hc ?_
    refine br_t (dc_eq.mpr ?_) (K gr gc gq gf a3 a4 a5 a6 a7 a8 a9 a10 a11 a12 a13 a14 a15 a16 a17 a18 a19 a20 a21 a22 a23 a24 ok)
    have e1 := h2 hc
    have e2 := hf.2.1
    have e3 := dc_be_end hf (by omega)
    have e4 := dc_cn_le (dc_Be a9 a17 n) n
    rw [show k = n by omega] at e1
    rw [e1]
    exact (dc_sub (by rw [e2, e3, dc_i1]; omega) (by omega) (by omega)).symm
  | succ j ih =>
    intro k x2 x3 gr gc gq gf a3 a4 a5 a6 a7 a8 a9 a10 a11 a12 a13 a14 a15 a16 a17 a18 a19 a20 a21 a22 a23 a24 hj hx3 ok h1 h2
    have hk : k < n := by omega
    refine br_f (fun z => by rw [dc_le] at z; omega) ?_
    refine dc_reachable (fun a9 a17 => x2.toInt = (dc_cn (dc_Be a9 a17 k) n : Int)) ok hx3 hk h2 (fun hc gr a3 a4 a9 a17 a19 a20 hf => ?_) (fun gr gc a3 a4 a5 a6 a7 a8 a9 a10 a11 a12 a13 a14 a15 a16 a17 a18 a19 a20 hc hf hQ => ⟨fun hr => ?_, fun hr => ?_⟩)
    · have := h1 hc
      rw [this.1, dc_be_0 hf, this.2]
      rfl
    · refine br_f (by decide) (fun y ey => ?_)
      rw [ey]
      refine ih (k + 1) x2 _ gr gc gq gf a3 a4 a5 a6 a7 a8 a9 a10 a11 a12 a13 a14 a15 a16 a17 a18 a19 a20 a21 a22 a23 a24 (by omega) (dc_inc hx3 (by omega)) ⟨g, Or.inr hf⟩ (fun z => absurd z hc) (fun _ => ?_)
      rw [dc_be_skip hf hr]
      exact hQ
    · refine br_t rfl ?_
      refine dc_children g hc hf.2.2.1 hx3 hk hr (fun res e1 => ?_)
      intro y ey
      have c1 := dc_cn_le (dc_Be a9 a17 k) n
      have c2 := dc_cn_le (fun w => 0 < (a9 w).toInt ∧ (a17 w).toInt = (k : Int)) n
      have hy : y.toInt = (dc_cn (dc_Be a9 a17 (k + 1)) n : Int) := by
        rw [ey, dc_be_step hf]
        exact dc_add (by rw [hQ, e1]; omega) (by omega) (by omega)
      refine dc_bre (fun z => ?_) (fun z => ?_)
      · intro y3 ey3
        rw [ey3]
        exact ih (k + 1) y _ gr gc gq gf a3 a4 a5 a6 a7 a8 a9 a10 a11 a12 a13 a14 a15 a16 a17 a18 a19 a20 a21 a22 a23 a24 (by omega) (dc_inc hx3 (by omega)) ⟨g, Or.inr hf⟩ (fun z => absurd z hc) (fun _ => hy)
      · rw [hx3, dc_i0] at z
        refine dc_vertex g hc hf hx3 hx1 hk (by omega) hr (fun gq gf a8 a21 a22 a23 a24 => ?_)
        refine br_f (by decide) (fun y3 ey3 => ?_)
        rw [ey3]
        exact ih (k + 1) y _ gr gc gq gf a3 a4 a5 a6 a7 a8 a9 a10 a11 a12 a13 a14 a15 a16 a17 a18 a19 a20 a21 a22 a23 a24 (by omega) (dc_inc hx3 (by omega)) ⟨g, Or.inr hf⟩ (fun z => absurd z hc) (fun _ => hy)
theorem dc_holds {post : Int32 → St2 → Prop} {gn ge gr gc gq gf : Int32} {a1 a2 a3 a4 a5 a6 a7 a8 a9 a10 a11 a12 a13 a14 a15 a16 a17 a18 a19 a20 a21 a22 a23 a24 : Nat → Int32} {n m : Nat} {T H : Nat → Nat} {p1 : Int32} (ok : dc_Ok n m T H gn ge gr gc a1 a2 a3 a4 a9 a17 a19 a20) (hp : p1.toInt = (n : Int))
    (K : ∀ gr gc gq gf (a3 a4 a5 a6 a7 a8 a9 a10 a11 a12 a13 a14 a15 a16 a17 a18 a19 a20 a21 a22 a23 a24 : Nat → Int32), dc_Ok n m T H gn ge gr gc a1 a2 a3 a4 a9 a17 a19 a20 → post 1 (gn, ge, gr, gc, gq, gf, a1, a2, a3, a4, a5, a6, a7, a8, a9, a10, a11, a12, a13, a14, a15, a16, a17, a18, a19, a20, a21, a22, a23, a24)) : wpL_holds post (gn, ge, gr, gc, gq, gf, a1, a2, a3, a4, a5, a6, a7, a8, a9, a10, a11, a12, a13, a14, a15, a16, a17, a18, a19, a20, a21, a22, a23, a24) p1 := by
  unfold wpL_holds
  refine ⟨n + 1, dc_h4 ok.1 hp K n 0 0 0 gr gc gq gf a3 a4 a5 a6 a7 a8 a9 a10 a11 a12 a13 a14 a15 a16 a17 a18 a19 a20 a21 a22 a23 a24 (by omega) dc_i0' ok (fun _ => ⟨rfl, dc_i0⟩) (fun hc => ?_)⟩
  rw [dc_be_0 (ok.2.resolve_left hc), dc_i0]
  rfl
end
section
theorem dc_pred {x : Int32} {k : Nat} (h : x.toInt = ((k + 1 : Nat) : Int)) (hk : k < 1000000) : (x - 1).toInt = (k : Int) :=
  dc_sub (by rw [h, dc_i1]; omega) (by omega) (by omega)
/-- the ends of the edges are vertices -/
def dc_Rg (n m : Nat) (a1 a2 : Nat → Int32) : Prop := ∀ e, e < m → (0 ≤ (a1 e).toInt ∧ (a1 e).toInt < (n : Int)) ∧ (0 ≤ (a2 e).toInt ∧ (a2 e).toInt < (n : Int))
theorem dc_rg_G {n m : Nat} {gn ge : Int32} {a1 a2 : Nat → Int32} (n2 : 2 ≤ n) (n24 : n ≤ 24) (m60 : m ≤ 60) (en : gn.toInt = (n : Int)) (em : ge.toInt = (m : Int)) (h : dc_Rg n m a1 a2) :
    dc_G n m (fun e => (a1 e).toInt.toNat) (fun e => (a2 e).toInt.toNat) gn ge a1 a2 := by
  refine ⟨n2, n24, m60, en, em, fun e he => ?_⟩
  have := h e he
  dsimp only
  omega
theorem dc_G_rg {n m : Nat} {T H : Nat → Nat} {gn ge : Int32} {a1 a2 : Nat → Int32} (g : dc_G n m T H gn ge a1 a2) : dc_Rg n m a1 a2 := by
  intro e he
  have := g.2.2.2.2.2 e he
  omega
/-- the object between two calls, whatever its edges -/
def dc_Lw (n : Nat) (gn ge gr gc : Int32) (a1 a2 a3 a4 a9 a17 a19 a20 : Nat → Int32) : Prop := ∃ m T H, dc_Ok n m T H gn ge gr gc a1 a2 a3 a4 a9 a17 a19 a20
theorem dc_lw_0 {n m : Nat} {gn ge gr gc : Int32} {a1 a2 a3 a4 a9 a17 a19 a20 : Nat → Int32} (n2 : 2 ≤ n) (n24 : n ≤ 24) (m60 : m ≤ 60) (en : gn.toInt = (n : Int)) (em : ge.toInt = (m : Int)) (h : dc_Rg n m a1 a2) (hc : gc = 0) :
    dc_Lw n gn ge gr gc a1 a2 a3 a4 a9 a17 a19 a20 := ⟨m, _, _, dc_rg_G n2 n24 m60 en em h, Or.inl hc⟩
theorem dc_link {post : Int32 → St2 → Prop} {gn ge gr gc gq gf : Int32} {a1 a2 a3 a4 a5 a6 a7 a8 a9 a10 a11 a12 a13 a14 a15 a16 a17 a18 a19 a20 a21 a22 a23 a24 : Nat → Int32} {n u v : Nat} {p0 p1 : Int32} (h : dc_Lw n gn ge gr gc a1 a2 a3 a4 a9 a17 a19 a20) (hp0 : p0.toInt = (u : Int)) (hu : u < n) (hp1 : p1.toInt = (v : Int)) (hv : v < n)
    (K : ∀ res ge gc a1 a2, dc_Lw n gn ge gr gc a1 a2 a3 a4 a9 a17 a19 a20 → post res (gn, ge, gr, gc, gq, gf, a1, a2, a3, a4, a5, a6, a7, a8, a9, a10, a11, a12, a13, a14, a15, a16, a17, a18, a19, a20, a21, a22, a23, a24)) : wpX_link post (gn, ge, gr, gc, gq, gf, a1, a2, a3, a4, a5, a6, a7, a8, a9, a10, a11, a12, a13, a14, a15, a16, a17, a18, a19, a20, a21, a22, a23, a24) p0 p1 := by
  obtain ⟨m, T, H, ok⟩ := id h
  obtain ⟨n2, n24, m60, en, em, ed⟩ := id ok.1
  have rg := dc_G_rg ok.1
  have h60 : (60 : Int32).toInt = 60 := dc_i60
  unfold wpX_link
  refine dc_isVertex en hp0 hu (br_f (by decide) ?_)
  refine dc_isVertex en hp1 hv (br_f (by decide) ?_)
  refine dc_bre (fun z => K _ _ _ _ _ h) (fun z => ?_)
  rw [em, h60] at z
  rw [dc_cl em]
  refine ⟨dc_in em (by omega), fun b1 e1 => ⟨dc_in em (by omega), fun b2 e2 => fun y ey => ?_⟩⟩
  subst e1 e2
  refine K y y 0 _ _ (dc_lw_0 (m := m + 1) n2 n24 (by omega) en (by rw [ey]; exact dc_inc em (by omega)) (fun e he => ?_) rfl)
  by_cases w : e = m
  · rw [w, pk_us, pk_us]
    omega
  · rw [pk_un w, pk_un w]
    exact rg e (by omega)
theorem dc_cut18 {post : Int32 → St2 → Prop} {gn ge gr gc gq gf : Int32} {a3 a4 a5 a6 a7 a8 a9 a10 a11 a12 a13 a14 a15 a16 a17 a18 a19 a20 a21 a22 a23 a24 : Nat → Int32} {n m : Nat} (n2 : 2 ≤ n) (n24 : n ≤ 24) (m60 : m ≤ 60) (m0 : 0 < m) (en : gn.toInt = (n : Int)) (em : ge.toInt = (m : Int))
    (K : ∀ res ge gc a1 a2, dc_Lw n gn ge gr gc a1 a2 a3 a4 a9 a17 a19 a20 → post res (gn, ge, gr, gc, gq, gf, a1, a2, a3, a4, a5, a6, a7, a8, a9, a10, a11, a12, a13, a14, a15, a16, a17, a18, a19, a20, a21, a22, a23, a24)) :
    ∀ (j k : Nat) (x2 : Int32) (a1 a2 : Nat → Int32), k + 1 + j = m → x2.toInt = ((k + 1 : Nat) : Int) → dc_Rg n m a1 a2 → wX_cut_18 post gn ge gr gc gq gf (j + 1) x2 a1 a2 a3 a4 a5 a6 a7 a8 a9 a10 a11 a12 a13 a14 a15 a16 a17 a18 a19 a20 a21 a22 a23 a24 := by
  intro j
  induction j with
  | zero =>
    intro k x2 a1 a2 hj hx rg
    refine br_t (dc_le.mpr (by omega)) (fun y ey => ?_)
    refine K y y 0 a1 a2 (dc_lw_0 (m := m - 1) n2 n24 (by omega) en ?_ (fun e he => rg e (by omega)) rfl)
    rw [ey]
    exact dc_sub (by rw [em, dc_i1]; omega) (by omega) (by omega)
  | succ j ih =>
    intro k x2 a1 a2 hj hx rg
    have k9 : k < 1000000 := by omega
    have k1 : k + 1 < 60 := by omega
    have k0 : k < 60 := by omega
    have v2 : vp_in x2 60 := dc_in hx k1
    have v3 : vp_in (x2 - 1) 60 := dc_in (dc_pred hx k9) k0
    refine br_f (fun z => by rw [dc_le] at z; omega) ?_
    rw [dc_cl hx, dc_cl (dc_pred hx k9)]
    refine ⟨v2, v3, fun b1 e1 => ⟨v2, v3, fun b2 e2 => fun y ey => ?_⟩⟩
    subst e1 e2 ey
    refine ih (k + 1) _ _ _ (by omega) (dc_inc hx (by omega)) (fun e he => ?_)
    by_cases w : e = k
    · rw [w, pk_us, pk_us]
      exact rg (k + 1) (by omega)
    · rw [pk_un w, pk_un w]
      exact rg e he
theorem dc_cut {post : Int32 → St2 → Prop} {gn ge gr gc gq gf : Int32} {a1 a2 a3 a4 a5 a6 a7 a8 a9 a10 a11 a12 a13 a14 a15 a16 a17 a18 a19 a20 a21 a22 a23 a24 : Nat → Int32} {n i : Nat} {p0 : Int32} (h : dc_Lw n gn ge gr gc a1 a2 a3 a4 a9 a17 a19 a20) (hp0 : p0.toInt = (i : Int)) (hi : i < 1000)
    (K : ∀ res ge gc a1 a2, dc_Lw n gn ge gr gc a1 a2 a3 a4 a9 a17 a19 a20 → post res (gn, ge, gr, gc, gq, gf, a1, a2, a3, a4, a5, a6, a7, a8, a9, a10, a11, a12, a13, a14, a15, a16, a17, a18, a19, a20, a21, a22, a23, a24)) : wpX_cut post (gn, ge, gr, gc, gq, gf, a1, a2, a3, a4, a5, a6, a7, a8, a9, a10, a11, a12, a13, a14, a15, a16, a17, a18, a19, a20, a21, a22, a23, a24) p0 := by
  obtain ⟨m, T, H, ok⟩ := id h
  obtain ⟨n2, n24, m60, en, em, ed⟩ := id ok.1
  have rg := dc_G_rg ok.1
  unfold wpX_cut
  refine br_f (fun z => by rw [dc_lt', hp0, dc_i0] at z; omega) ?_
  refine dc_brt (fun z => ?_) (fun z => K _ _ _ _ _ h)
  rw [hp0, em] at z
  intro y ey
  refine ⟨m - (i + 1) + 1, ?_⟩
  exact dc_cut18 n2 n24 m60 (by omega) en em K (m - (i + 1)) i y a1 a2 (by omega) (by rw [ey]; exact dc_inc hp0 (by omega)) rg
end
section
theorem dc_nI {x : Int32} {k : Nat} (h : x.toInt = (k : Int)) (hk : k < 2 ^ 31) : x = nI k := dc_eq.mpr (by rw [h, nI_toInt hk])
theorem dc_rem {a x : Int32} {j n : Nat} (ha : a = nI j) (hj : j < 2 ^ 31) (hx : x = nI n) (n0 : 0 < n) (n31 : n < 2 ^ 31) : ∃ u, u < n ∧ a - a / x * x = nI u := by
  rw [ha, hx, pk_rem hj n0 n31]
  exact ⟨j % n, Nat.mod_lt j n0, rfl⟩
theorem dc_cell {post : Int32 → Prop} {L : Nat} {xs : Nat → Int32} {p1 : Int32} {k : Nat} (hL : L ≤ 260) (hp : p1.toInt = (k : Int)) (K : ∀ r, post r) : wpL_cell post L xs () p1 := by
  have e : (Int32.ofNat L).toInt = (L : Int) := nI_toInt (show L < 2 ^ 31 by omega)
  unfold wpL_cell
  exact dc_brl (fun _ => K _) (fun z => ⟨vp_in_iff.mpr ⟨by omega, by rw [e] at z; exact z⟩, K _⟩)
theorem dc_l131 {post : Int32 → Prop} {L : Nat} {xs : Nat → Int32} {J : Int32 → Int32 → Int32 → Int32 → Int32 → Int32 → Int32 → (Nat → Int32) → (Nat → Int32) → (Nat → Int32) → (Nat → Int32) → (Nat → Int32) → (Nat → Int32) → (Nat → Int32) → (Nat → Int32) → (Nat → Int32) → (Nat → Int32) → (Nat → Int32) → (Nat → Int32) → (Nat → Int32) → (Nat → Int32) → (Nat → Int32) → (Nat → Int32) → (Nat → Int32) → (Nat → Int32) → (Nat → Int32) → (Nat → Int32) → (Nat → Int32) → (Nat → Int32) → (Nat → Int32) → (Nat → Int32) → Prop} {gn ge gr gc gq gf : Int32} {a1 a2 a3 a4 a5 a6 a7 a8 a9 a10 a11 a12 a13 a14 a15 a16 a17 a18 a19 a20 a21 a22 a23 a24 : Nat → Int32} {n k kc ks : Nat} {x1 x3 x4 : Int32}
    (h : dc_Lw n gn ge gr gc a1 a2 a3 a4 a9 a17 a19 a20) (hx1 : x1.toInt = (n : Int)) (hx3 : x3.toInt = (k : Int)) (hk : k < 1000)
    (K : ∀ y : Int32, y.toInt = ((k + 2 : Nat) : Int) → ∀ gr gc gq gf (a3 a4 a5 a6 a7 a8 a9 a10 a11 a12 a13 a14 a15 a16 a17 a18 a19 a20 a21 a22 a23 a24 : Nat → Int32), dc_Lw n gn ge gr gc a1 a2 a3 a4 a9 a17 a19 a20 → J y gn ge gr gc gq gf a1 a2 a3 a4 a5 a6 a7 a8 a9 a10 a11 a12 a13 a14 a15 a16 a17 a18 a19 a20 a21 a22 a23 a24) :
    wL_law_131 post L xs J x1 x3 x4 kc ks gn ge gr gc gq gf a1 a2 a3 a4 a5 a6 a7 a8 a9 a10 a11 a12 a13 a14 a15 a16 a17 a18 a19 a20 a21 a22 a23 a24 := by
  have hy : (x3 + 2).toInt = ((k + 2 : Nat) : Int) := dc_add (by rw [hx3, show (2 : Int32).toInt = 2 by decide]; rfl) (by omega) (by omega)
  obtain ⟨m, T, H, ok⟩ := id h
  unfold wL_law_131
  refine br_c (fun _ => ?_) (fun _ => ?_)
  · refine dc_holds ok hx1 (fun gr gc gq gf a3 a4 a5 a6 a7 a8 a9 a10 a11 a12 a13 a14 a15 a16 a17 a18 a19 a20 a21 a22 a23 a24 ok' => ?_)
    refine br_f (by decide) (fun y ey => ?_)
    rw [ey]
    exact K _ hy gr gc gq gf a3 a4 a5 a6 a7 a8 a9 a10 a11 a12 a13 a14 a15 a16 a17 a18 a19 a20 a21 a22 a23 a24 ⟨m, T, H, ok'⟩
  · intro y ey
    rw [ey]
    exact K _ hy gr gc gq gf a3 a4 a5 a6 a7 a8 a9 a10 a11 a12 a13 a14 a15 a16 a17 a18 a19 a20 a21 a22 a23 a24 h
theorem dc_l25 {L : Nat} {xs : Nat → Int32} {gn x1 : Int32} {n kc ks : Nat} (hL : L ≤ 260) (n2 : 2 ≤ n) (n24 : n ≤ 24) (hx1 : x1.toInt = (n : Int)) :
    ∀ (f k : Nat) (x3 ge gr gc gq gf : Int32) (a1 a2 a3 a4 a5 a6 a7 a8 a9 a10 a11 a12 a13 a14 a15 a16 a17 a18 a19 a20 a21 a22 a23 a24 : Nat → Int32), L < k + f → k ≤ 500 → x3.toInt = (k : Int) → dc_Lw n gn ge gr gc a1 a2 a3 a4 a9 a17 a19 a20 →
      wL_law_25 (fun r => r = 1) L xs x1 kc ks (f + 1) x3 gn ge gr gc gq gf a1 a2 a3 a4 a5 a6 a7 a8 a9 a10 a11 a12 a13 a14 a15 a16 a17 a18 a19 a20 a21 a22 a23 a24 := by
  have eL : (Int32.ofNat L).toInt = (L : Int) := nI_toInt (show L < 2 ^ 31 by omega)
  have x1n : x1 = nI n := dc_nI hx1 (by omega)
  have x10 : ¬ x1 = 0 := fun z => by rw [dc_eq, hx1, dc_i0] at z; omega
  intro f
  induction f with
  | zero =>
    intro k x3 ge gr gc gq gf a1 a2 a3 a4 a5 a6 a7 a8 a9 a10 a11 a12 a13 a14 a15 a16 a17 a18 a19 a20 a21 a22 a23 a24 hf hk hx3 h
    obtain ⟨m, T, H, ok⟩ := h
    exact br_t (dc_le.mpr (by rw [eL, hx3]; omega)) (dc_holds ok hx1 (fun gr gc gq gf a3 a4 a5 a6 a7 a8 a9 a10 a11 a12 a13 a14 a15 a16 a17 a18 a19 a20 a21 a22 a23 a24 ok' => rfl))
  | succ f ih =>
    intro k x3 ge gr gc gq gf a1 a2 a3 a4 a5 a6 a7 a8 a9 a10 a11 a12 a13 a14 a15 a16 a17 a18 a19 a20 a21 a22 a23 a24 hf hk hx3 h
    refine dc_brl (fun z => ?_) (fun z => ?_)
    · obtain ⟨m, T, H, ok⟩ := h
      exact dc_holds ok hx1 (fun gr gc gq gf a3 a4 a5 a6 a7 a8 a9 a10 a11 a12 a13 a14 a15 a16 a17 a18 a19 a20 a21 a22 a23 a24 ok' => rfl)
    · rw [eL, hx3] at z
      refine dc_cell hL hx3 (fun c => ?_)
      refine dc_cell hL (dc_inc hx3 (by omega)) (fun d => ?_)
      obtain ⟨j1, j1b, j1e⟩ := pk_andE d (m := 31) 5 (by decide)
      obtain ⟨j2, j2b, j2e⟩ := pk_andE (d >>> ((5 : Int32) &&& 31)) (m := 31) 5 (by decide)
      obtain ⟨j3, j3b, j3e⟩ := pk_andE d (m := 63) 6 (by decide)
      obtain ⟨j4, j4b, j4e⟩ := pk_andE (c >>> ((3 : Int32) &&& 31)) (m := 1) 1 (by decide)
      refine ⟨x10, fun x6 e6 => ⟨x10, fun x7 e7 => ?_⟩⟩
      obtain ⟨u, u1, u2⟩ := dc_rem j1e (by omega) x1n (by omega) (by omega)
      obtain ⟨v, v1, v2⟩ := dc_rem j2e (by omega) x1n (by omega) (by omega)
      have h6 : x6.toInt = (u : Int) := by rw [e6, u2]; exact nI_toInt (by omega)
      have h7 : x7.toInt = (v : Int) := by rw [e7, v2]; exact nI_toInt (by omega)
      have nxt : ∀ y : Int32, y.toInt = ((k + 2 : Nat) : Int) → ∀ ge gr gc gq gf (a1 a2 a3 a4 a5 a6 a7 a8 a9 a10 a11 a12 a13 a14 a15 a16 a17 a18 a19 a20 a21 a22 a23 a24 : Nat → Int32), dc_Lw n gn ge gr gc a1 a2 a3 a4 a9 a17 a19 a20 → wL_law_25 (fun r => r = 1) L xs x1 kc ks (f + 1) y gn ge gr gc gq gf a1 a2 a3 a4 a5 a6 a7 a8 a9 a10 a11 a12 a13 a14 a15 a16 a17 a18 a19 a20 a21 a22 a23 a24 :=
        fun y hy ge gr gc gq gf a1 a2 a3 a4 a5 a6 a7 a8 a9 a10 a11 a12 a13 a14 a15 a16 a17 a18 a19 a20 a21 a22 a23 a24 h' => ih (k + 2) y ge gr gc gq gf a1 a2 a3 a4 a5 a6 a7 a8 a9 a10 a11 a12 a13 a14 a15 a16 a17 a18 a19 a20 a21 a22 a23 a24 (by omega) (by omega) hy h'
      refine br_c (fun _ => ?_) (fun _ => br_c (fun _ => ?_) (fun _ => ?_))
      · refine dc_cut h (by rw [j3e]; exact nI_toInt (by omega)) (show j3 < 1000 by omega) (fun res ge gc a1 a2 h' => ?_)
        exact dc_l131 h' hx1 hx3 (by omega) (fun y hy gr gc gq gf a3 a4 a5 a6 a7 a8 a9 a10 a11 a12 a13 a14 a15 a16 a17 a18 a19 a20 a21 a22 a23 a24 h'' => nxt y hy ge gr gc gq gf a1 a2 a3 a4 a5 a6 a7 a8 a9 a10 a11 a12 a13 a14 a15 a16 a17 a18 a19 a20 a21 a22 a23 a24 h'')
      · refine dc_link h h6 u1 h7 v1 (fun res ge gc a1 a2 h' => ?_)
        exact dc_l131 h' hx1 hx3 (by omega) (fun y hy gr gc gq gf a3 a4 a5 a6 a7 a8 a9 a10 a11 a12 a13 a14 a15 a16 a17 a18 a19 a20 a21 a22 a23 a24 h'' => nxt y hy ge gr gc gq gf a1 a2 a3 a4 a5 a6 a7 a8 a9 a10 a11 a12 a13 a14 a15 a16 a17 a18 a19 a20 a21 a22 a23 a24 h'')
      · have e8 : x6 + 1 + ((c >>> ((3 : Int32) &&& 31)) &&& 1) = nI (u + 1 + j4) := by rw [j4e, e6, u2, nI_1, nI_add]
        obtain ⟨w, w1, w2⟩ := dc_rem e8 (by omega) x1n (by omega) (by omega)
        refine ⟨x10, ?_⟩
        refine dc_link h h6 u1 (by rw [w2]; exact nI_toInt (by omega)) w1 (fun res ge gc a1 a2 h' => ?_)
        exact dc_l131 h' hx1 hx3 (by omega) (fun y hy gr gc gq gf a3 a4 a5 a6 a7 a8 a9 a10 a11 a12 a13 a14 a15 a16 a17 a18 a19 a20 a21 a22 a23 a24 h'' => nxt y hy ge gr gc gq gf a1 a2 a3 a4 a5 a6 a7 a8 a9 a10 a11 a12 a13 a14 a15 a16 a17 a18 a19 a20 a21 a22 a23 a24 h'')
end
section
theorem dc_init {post : St2 → Prop} {p0 : Int32} {n : Nat} (hp : p0.toInt = (n : Int)) (n2 : 2 ≤ n) (n24 : n ≤ 24) (K : ∀ (ge gr gc gq gf : Int32) (a1 a2 a3 a4 a5 a6 a7 a8 a9 a10 a11 a12 a13 a14 a15 a16 a17 a18 a19 a20 a21 a22 a23 a24 : Nat → Int32), ge = 0 → gc = 0 → post (p0, ge, gr, gc, gq, gf, a1, a2, a3, a4, a5, a6, a7, a8, a9, a10, a11, a12, a13, a14, a15, a16, a17, a18, a19, a20, a21, a22, a23, a24)) : wpX_init post 24 721 (0, 0, 0, 0, 0, 0) p0 := by
  have e2 : (2 : Int32).toInt = 2 := by decide
  have e24 : (24 : Int32).toInt = 24 := by decide
  unfold wpX_init
  refine ⟨by decide, by decide, by decide, by decide, by decide, by decide, by decide, by decide, by decide, by decide, by decide, by decide, by decide, by decide, by decide, by decide, by decide, by decide, by decide, by decide, by decide, by decide, by decide, by decide, by decide, by decide, by decide, by decide, by decide, by decide, by decide, by decide, by decide, by decide, by decide, by decide, by decide, by decide, by decide, by decide, by decide, by decide, by decide, by decide, by decide, by decide, by decide, by decide, br_t (dc_le.mpr (by rw [hp, e2]; omega)) ?_⟩
  unfold wX_init_207
  exact br_t (dc_le.mpr (by rw [hp, e24]; omega)) (K _ _ _ _ _ _ _ _ _ _ _ _ _ _ _ _ _ _ _ _ _ _ _ _ _ _ _ _ _ rfl rfl)
theorem i_vc (xs : Nat → Int32) (L : Nat) (hL : L ≤ 260) : wpL_law (fun r => r = 1) L xs := by
  unfold wpL_law
  refine dc_cell hL dc_i0' (fun r => ?_)
  refine And.intro (by decide) (fun x1 e1 => ⟨24, 721, by decide, by decide, ?_⟩)
  obtain ⟨j, jb, je⟩ := pk_andE r (m := 2147483647) 31 (by decide)
  obtain ⟨u, u1, u2⟩ := dc_rem (x := 23) (n := 23) je jb (by decide) (by omega) (by omega)
  have h1 : x1.toInt = ((2 + u : Nat) : Int) := by
    rw [e1, u2, show (2 : Int32) = nI 2 by decide, nI_add]
    exact nI_toInt (by omega)
  refine dc_init h1 (by omega) (by omega) (fun ge gr gc gq gf a1 a2 a3 a4 a5 a6 a7 a8 a9 a10 a11 a12 a13 a14 a15 a16 a17 a18 a19 a20 a21 a22 a23 a24 ze zc => ?_)
  refine ⟨261 + 1, ?_⟩
  exact dc_l25 hL (by omega) (by omega) h1 261 1 1 ge gr gc gq gf a1 a2 a3 a4 a5 a6 a7 a8 a9 a10 a11 a12 a13 a14 a15 a16 a17 a18 a19 a20 a21 a22 a23 a24 (by omega) (by omega) dc_i1' (dc_lw_0 (m := 0) (by omega) (by omega) (by omega) h1 (by rw [ze]; exact dc_i0) (fun e he => absurd he (by omega)) zc)
end
