section
/-- a row's picture: its coefficients and its length (degree + 1) -/
abbrev rf_P : Type := (Nat → Nat) × Nat
def rf_gd (v : rf_P) : Prop := v.2 ≤ 40 ∧ (∀ i, v.1 i < 101) ∧ (∀ i, v.2 ≤ i → v.1 i = 0) ∧ (0 < v.2 → v.1 (v.2 - 1) ≠ 0)
def rf_row (a1 a2 : Nat → Int32) (p : Nat) (v : rf_P) : Prop := (∀ i, i < 40 → a1 (p * 40 + i) = nI (v.1 i)) ∧ a2 p = nI v.2 - 1
def rf_ok (R : Nat → Option rf_P) (a1 a2 : Nat → Int32) : Prop := ∀ p v, R p = some v → p < 24 ∧ rf_row a1 a2 p v ∧ rf_gd v
def rf_up (R : Nat → Option rf_P) (p : Nat) (v : rf_P) : Nat → Option rf_P := fun k => if k = p then some v else R k
def rf_no (R : Nat → Option rf_P) (p : Nat) : Nat → Option rf_P := fun k => if k = p then none else R k
theorem rf_us {R : Nat → Option rf_P} {p : Nat} {v : rf_P} : rf_up R p v p = some v := if_pos rfl
theorem rf_un {R : Nat → Option rf_P} {p k : Nat} {v : rf_P} (h : k ≠ p) : rf_up R p v k = R k := if_neg h
theorem rf_ns {R : Nat → Option rf_P} {p : Nat} : rf_no R p p = none := if_pos rfl
theorem rf_nn {R : Nat → Option rf_P} {p k : Nat} (h : k ≠ p) : rf_no R p k = R k := if_neg h
theorem rf_mono {R R' : Nat → Option rf_P} {a1 a2 : Nat → Int32} (h : rf_ok R a1 a2) (hs : ∀ p v, R' p = some v → R p = some v) : rf_ok R' a1 a2 := fun p v e => h p v (hs p v e)
theorem rf_nomono {R : Nat → Option rf_P} {a1 a2 : Nat → Int32} (h : rf_ok R a1 a2) (q : Nat) : rf_ok (rf_no R q) a1 a2 := by
  refine rf_mono h (fun p v e => ?_)
  by_cases z : p = q
  · rw [z, rf_ns] at e
    exact absurd e (by simp)
  · rwa [rf_nn z] at e
theorem rf_ok0 (a1 a2 : Nat → Int32) : rf_ok (fun _ => none) a1 a2 := fun p v e => absurd e (by simp)
theorem rf_uu {f : Nat → Int32} {k : Nat} {x y : Int32} : upd (upd f k x) k y = upd f k y := by
  funext j
  by_cases e : j = k
  · rw [e, pk_us, pk_us]
  · rw [pk_un e, pk_un e, pk_un e]
/-! numbers -/
theorem rf_ix (p i : Nat) : nI p * 40 + nI i = nI (p * 40 + i) := by
  rw [show (40 : Int32) = nI 40 from rfl, pk_mul, nI_add]
theorem rf_cl {p i : Nat} (hp : p < 24) (hi : i < 100) : (nI p * 40 + nI i).toNatClampNeg = p * 40 + i := by
  rw [rf_ix]
  exact nI_clamp (by omega)
theorem rf_ix0 (p : Nat) : nI p * 40 = nI (p * 40 + 0) := by
  rw [show (40 : Int32) = nI 40 from rfl, pk_mul]
  rfl
theorem rf_rm {a : Nat} (h : a < 2 ^ 31) : nI a - nI a / 101 * 101 = nI (a % 101) := pk_rem (d := 101) h (by decide) (by decide)
theorem rf_dI {n : Nat} (h : n ≤ 1000) : (nI n - 1).toInt = (n : Int) - 1 := pk_sub_toInt (b := 1) (by omega) (by decide)
theorem rf_dlt {n i : Nat} (hn : n ≤ 1000) (hi : i ≤ 1000) : nI n - 1 < nI i ↔ n ≤ i := by
  rw [Int32.lt_iff_toInt_lt, rf_dI hn, nI_toInt (by omega)]
  omega
theorem rf_dlt2 {n m : Nat} (hn : n ≤ 1000) (hm : m ≤ 1000) : nI n - 1 < nI m - 1 ↔ n < m := by
  rw [Int32.lt_iff_toInt_lt, rf_dI hn, rf_dI hm]
  omega
theorem rf_d0 {n : Nat} (hn : n ≤ 1000) : 0 ≤ nI n - 1 ↔ 0 < n := by
  rw [Int32.le_iff_toInt_le, rf_dI hn, show (0 : Int32).toInt = 0 from by decide]
  omega
theorem rf_dz {n : Nat} (hn : n ≤ 1000) : nI n - 1 < 0 ↔ n = 0 := by
  rw [Int32.lt_iff_toInt_lt, rf_dI hn, show (0 : Int32).toInt = 0 from by decide]
  omega
theorem rf_dp {n : Nat} (h : 0 < n) : nI n - 1 = nI (n - 1) := by
  obtain ⟨m, rfl⟩ : ∃ m, n = m + 1 := ⟨n - 1, by omega⟩
  rw [nI_pred]
  rfl
theorem rf_101 : ¬ (101 : Int32) = 0 := by decide
theorem rf_z0 {a : Nat} (h : a < 2 ^ 31) : nI a = 0 ↔ a = 0 := nI_eq (b := 0) h (by decide)
/-! a row filled below i -/
def rf_fl (a : Nat → Int32) (q i : Nat) (F : Nat → Int32) : Nat → Int32 := fun k => if q * 40 ≤ k ∧ k < q * 40 + i then F (k - q * 40) else a k
theorem rf_fl0 (a : Nat → Int32) (q : Nat) (F : Nat → Int32) : rf_fl a q 0 F = a := funext fun k => if_neg (by omega)
theorem rf_flr {a : Nat → Int32} {q i k : Nat} {F : Nat → Int32} (h : ¬ (q * 40 ≤ k ∧ k < q * 40 + i)) : rf_fl a q i F k = a k := if_neg h
theorem rf_flk {a : Nat → Int32} {q i k : Nat} {F : Nat → Int32} (h : k < i) : rf_fl a q i F (q * 40 + k) = F k := by
  unfold rf_fl
  rw [if_pos (by omega)]
  exact congrArg F (by omega)
theorem rf_flS (a : Nat → Int32) (q i : Nat) (F : Nat → Int32) : upd (rf_fl a q i F) (q * 40 + i) (F i) = rf_fl a q (i + 1) F := by
  funext k
  by_cases e : k = q * 40 + i
  · subst e
    rw [pk_us, rf_flk (by omega)]
  · rw [pk_un e]
    unfold rf_fl
    by_cases h : q * 40 ≤ k ∧ k < q * 40 + i
    · rw [if_pos h, if_pos (by omega)]
    · rw [if_neg h, if_neg (by omega)]
theorem rf_flc {a : Nat → Int32} {q : Nat} {F G : Nat → Int32} (h : ∀ k, k < 40 → F k = G k) : rf_fl a q 40 F = rf_fl a q 40 G := by
  funext k
  unfold rf_fl
  by_cases z : q * 40 ≤ k ∧ k < q * 40 + 40
  · rw [if_pos z, if_pos z]
    exact h _ (by omega)
  · rw [if_neg z, if_neg z]
theorem rf_flid {a : Nat → Int32} {q : Nat} {F : Nat → Int32} (h : ∀ k, k < 40 → F k = a (q * 40 + k)) : rf_fl a q 40 F = a := by
  funext k
  unfold rf_fl
  by_cases z : q * 40 ≤ k ∧ k < q * 40 + 40
  · rw [if_pos z, h _ (by omega)]
    exact congrArg a (by omega)
  · rw [if_neg z]
theorem rf_flu {a : Nat → Int32} {q j : Nat} {F : Nat → Int32} {x : Int32} (hj : j < 40) : upd (rf_fl a q 40 F) (q * 40 + j) x = rf_fl a q 40 (fun k => if k = j then x else F k) := by
  funext k
  by_cases e : k = q * 40 + j
  · subst e
    rw [pk_us, rf_flk hj, if_pos rfl]
  · rw [pk_un e]
    unfold rf_fl
    by_cases z : q * 40 ≤ k ∧ k < q * 40 + 40
    · rw [if_pos z, if_pos z]
      dsimp only
      rw [if_neg (by omega)]
    · rw [if_neg z, if_neg z]
theorem rf_fl2 {a : Nat → Int32} {q : Nat} {F G : Nat → Int32} : rf_fl (rf_fl a q 40 F) q 40 G = rf_fl a q 40 G := by
  funext k
  unfold rf_fl
  by_cases z : q * 40 ≤ k ∧ k < q * 40 + 40
  · rw [if_pos z, if_pos z]
  · rw [if_neg z, if_neg z, if_neg z]
theorem rf_set {R : Nat → Option rf_P} {a1 a2 b1 b2 F : Nat → Int32} {q : Nat} {v : rf_P} (hR : rf_ok (rf_no R q) a1 a2) (hq : q < 24) (h1 : b1 = rf_fl a1 q 40 F) (hF : ∀ i, i < 40 → F i = nI (v.1 i)) (h2 : b2 = upd a2 q (nI v.2 - 1)) (hg : rf_gd v) : rf_ok (rf_up R q v) b1 b2 := by
  subst h1 h2
  intro p w hp
  by_cases e : p = q
  · subst e
    rw [rf_us] at hp
    cases hp
    exact ⟨hq, ⟨fun i hi => by rw [rf_flk hi]; exact hF i hi, pk_us⟩, hg⟩
  · rw [rf_un e] at hp
    obtain ⟨h, ⟨h3, h4⟩, h5⟩ := hR p w (by rw [rf_nn e]; exact hp)
    exact ⟨h, ⟨fun i hi => by rw [rf_flr (by omega)]; exact h3 i hi, by rw [pk_un e]; exact h4⟩, h5⟩
/-- contents of another row may change while the row isn't in the picture -/
theorem rf_oth {R : Nat → Option rf_P} {a1 a2 F : Nat → Int32} {q : Nat} (hR : rf_ok R a1 a2) (hq : R q = none) : rf_ok R (rf_fl a1 q 40 F) a2 := by
  intro p w hp
  have e : p ≠ q := fun z => by rw [z, hq] at hp; exact absurd hp (by simp)
  obtain ⟨h, ⟨h3, h4⟩, h5⟩ := hR p w hp
  exact ⟨h, ⟨fun i hi => by rw [rf_flr (by omega)]; exact h3 i hi, h4⟩, h5⟩
theorem rf_othd {R : Nat → Option rf_P} {a1 a2 : Nat → Int32} {q : Nat} {x : Int32} (hR : rf_ok R a1 a2) (hq : R q = none) : rf_ok R a1 (upd a2 q x) := by
  intro p w hp
  have e : p ≠ q := fun z => by rw [z, hq] at hp; exact absurd hp (by simp)
  obtain ⟨h, ⟨h3, h4⟩, h5⟩ := hR p w hp
  exact ⟨h, ⟨h3, by rw [pk_un e]; exact h4⟩, h5⟩
/-! small polynomials -/
def rf_zp : rf_P := (fun _ => 0, 0)
def rf_kon (c : Nat) : rf_P := (fun k => if k = 0 then c else 0, if c = 0 then 0 else 1)
def rf_one : rf_P := (fun k => if k = 0 then 1 else 0, 1)
def rf_X : rf_P := (fun k => if k = 1 then 1 else 0, 2)
theorem rf_gdz : rf_gd rf_zp := ⟨by decide, fun _ => (by decide : 0 < 101), fun _ _ => rfl, fun h => absurd h (by decide)⟩
theorem rf_kon1 : rf_kon 1 = rf_one := rfl
theorem rf_gdk {c : Nat} (h : c < 101) : rf_gd (rf_kon c) := by
  unfold rf_kon rf_gd
  refine ⟨?_, fun i => ?_, fun i hi => ?_, fun hi => ?_⟩
  · dsimp only
    split <;> omega
  · dsimp only
    split <;> omega
  · dsimp only at hi ⊢
    by_cases z : c = 0
    · rw [z]
      split <;> rfl
    · rw [if_neg z] at hi
      rw [if_neg (by omega)]
  · dsimp only at hi ⊢
    by_cases z : c = 0
    · rw [if_pos z] at hi
      omega
    · rw [if_neg z, if_pos rfl]
      exact z
theorem rf_gd1 : rf_gd rf_one := rf_gdk (c := 1) (by decide)
theorem rf_gdX : rf_gd rf_X := by
  refine ⟨by decide, fun i => ?_, fun i hi => ?_, fun hi => by decide⟩
  · show (if i = 1 then 1 else 0) < 101
    split <;> decide
  · show (if i = 1 then 1 else 0) = 0
    have h : 2 ≤ i := hi
    rw [if_neg (by omega)]
/-! sums of products -/
def rf_cv (f g : Nat → Nat) (k : Nat) : Nat → Nat
  | 0 => 0
  | t + 1 => rf_cv f g k t + (if t ≤ k then f t * g (k - t) else 0)
theorem rf_cvS (f g : Nat → Nat) (k t : Nat) : rf_cv f g k (t + 1) = rf_cv f g k t + (if t ≤ k then f t * g (k - t) else 0) := rfl
/-- beyond the degrees all is 0 -/
theorem rf_cv0 {f g : Nat → Nat} {m : Nat} (hg : ∀ i, m ≤ i → g i = 0) (k : Nat) : ∀ t, t + m ≤ k + 1 → rf_cv f g k t = 0
  | 0, _ => rfl
  | t + 1, h => by
    rw [rf_cvS, rf_cv0 hg k t (by omega), hg (k - t) (by omega)]
    split <;> omega
theorem rf_cvk1 (g : Nat → Nat) (k : Nat) : rf_cv rf_one.1 g k 1 = g k := by
  show 0 + (if 0 ≤ k then 1 * g (k - 0) else 0) = g k
  rw [if_pos (Nat.zero_le k), Nat.sub_zero]
  omega
theorem rf_cv1 (f : Nat → Nat) (k : Nat) : ∀ t, rf_cv f rf_one.1 k t = if k < t then f k else 0
  | 0 => by rw [if_neg (by omega)]; rfl
  | t + 1 => by
    rw [rf_cvS, rf_cv1 f k t]
    show (if k < t then f k else 0) + (if t ≤ k then f t * (if k - t = 0 then 1 else 0) else 0) = if k < t + 1 then f k else 0
    by_cases h1 : k < t
    · rw [if_pos h1, if_neg (by omega), if_pos (by omega)]
      rfl
    · by_cases h2 : k = t
      · subst h2
        rw [if_neg h1, if_pos (by omega), if_pos (by omega), if_pos (by omega)]
        omega
      · rw [if_neg h1, if_pos (by omega), if_neg (by omega), if_neg (by omega)]
        rfl
end
section
/-! methods over one row -/
theorem rf_fit {post : St2 → Prop} {c : Int32} {a1 a2 a3 : Nat → Int32} {p : Nat} {v : rf_P} (hp : p < 24) (hc : ∀ i, i < 40 → a1 (p * 40 + i) = nI (v.1 i)) (hg : rf_gd v) (H : post (c, a1, upd a2 p (nI v.2 - 1), a3)) {x : Int32} (hx : x = nI p) : wpX_fit post (c, a1, a2, a3) x := by
  subst hx
  obtain ⟨hl, hb, hz, hn⟩ := hg
  have E : ∃ n, wX_fit_5 post (nI p) c a1 a2 a3 n (nI (40 - 0) - 1) (nI 0) := by
    refine pk_loop (σ := Unit) (fun n i _ => wX_fit_5 post (nI p) c a1 a2 a3 n (nI (40 - i) - 1) (nI i)) (fun _ _ => True) (40 - v.2) 0 () (by omega) trivial ?_ ?_
    · intro n _ _
      show wX_fit_5 post (nI p) c a1 a2 a3 (n + 1) (nI (40 - (40 - v.2)) - 1) (nI (40 - v.2))
      rw [show 40 - (40 - v.2) = v.2 by omega]
      refine pk_le 40 (40 - v.2) (fun z => ⟨pk_in p 24 hp, nm_r (by rw [nI_clamp (by omega)]) H⟩) (fun z => br_f (by rw [rf_dz (by omega)]; omega) ?_)
      have e2 : nI v.2 - 1 = nI (v.2 - 1) := rf_dp (by omega)
      refine ⟨pk_in (p * 40 + (v.2 - 1)) 960 (by omega) (by rw [e2, rf_ix]), br_f ?_ ⟨pk_in p 24 hp, nm_r (by rw [nI_clamp (by omega)]) H⟩⟩
      have hv := hb (v.2 - 1)
      rw [e2, rf_cl hp (by omega), hc _ (by omega), rf_z0 (by omega)]
      exact hn (by omega)
    · intro n i _ hi _ hw
      have e1 : nI (40 - i) - 1 = nI (39 - i) := by
        rw [rf_dp (by omega)]
        exact congrArg nI (by omega)
      refine pk_le 40 i (fun z => absurd z (by omega)) (fun _ => br_f (by rw [rf_dz (by omega)]; omega) ⟨pk_in (p * 40 + (39 - i)) 960 (by omega) (by rw [e1, rf_ix]), br_t ?_ (nm_r (by rw [e1, show 40 - (i + 1) = 39 - i by omega, Int32.sub_eq_add_neg]) (nm_r (nI_1 i) (hw () trivial)))⟩)
      rw [e1, rf_cl hp (by omega), hc _ (by omega), hz _ (by omega)]
      rfl
  exact E
theorem rf_clr0 {post : St2 → Prop} {c : Int32} {a1 a2 a3 : Nat → Int32} {p : Nat} (hp : p < 24) (H : post (c, rf_fl a1 p 40 (fun _ => 0), upd a2 p (nI 0 - 1), a3)) {x : Int32} (hx : x = nI p) : wpX_clear post (c, a1, a2, a3) x := by
  subst hx
  have E : ∃ n, wX_clear_2 post (nI p) c n (nI 0) (rf_fl a1 p 0 (fun _ => 0)) a2 a3 := by
    refine pk_loop (σ := Unit) (fun n i _ => wX_clear_2 post (nI p) c n (nI i) (rf_fl a1 p i (fun _ => 0)) a2 a3) (fun _ _ => True) 40 0 () (by omega) trivial ?_ ?_
    · intro n _ _
      exact pk_le 40 40 (fun z => ⟨pk_in p 24 hp, nm_r (by rw [nI_clamp (by omega)]; rfl) H⟩) (fun z => absurd z (by omega))
    · intro n i _ hi _ hw
      exact pk_le 40 i (fun z => absurd z (by omega)) (fun _ => ⟨pk_in (p * 40 + i) 960 (by omega) (rf_ix p i), nm_r (by rw [rf_cl hp (by omega)]; exact rf_flS a1 p i (fun _ => 0)) (nm_r (nI_1 i) (hw () trivial))⟩)
  rw [rf_fl0] at E
  exact E
theorem rf_clr {post : St2 → Prop} {c : Int32} {a1 a2 a3 : Nat → Int32} {R : Nat → Option rf_P} (p : Nat) (hR : rf_ok R a1 a2) (hp : p < 24) {x : Int32} (hx : x = nI p) (H : ∀ b1 b2, rf_ok (rf_up R p rf_zp) b1 b2 → post (c, b1, b2, a3)) : wpX_clear post (c, a1, a2, a3) x :=
  rf_clr0 hp (H _ _ (rf_set (v := rf_zp) (rf_nomono hR p) hp rfl (fun _ _ => rfl) rfl rf_gdz)) hx
theorem rf_con {post : St2 → Prop} {c : Int32} {a1 a2 a3 : Nat → Int32} {R : Nat → Option rf_P} (p k : Nat) (hR : rf_ok R a1 a2) (hp : p < 24) (hk : k < 101) {x y : Int32} (hx : x = nI p) (hy : y = nI k) (H : ∀ b1 b2, rf_ok (rf_up R p (rf_kon k)) b1 b2 → post (c, b1, b2, a3)) : wpX_constantTo post (c, a1, a2, a3) x y := by
  subst hx hy
  unfold wpX_constantTo
  dsimp only
  refine rf_clr0 hp ?_ rfl
  have e0 : upd (rf_fl a1 p 40 (fun _ => 0)) (nI p * 40).toNatClampNeg (nI k) = rf_fl a1 p 40 (fun i => if i = 0 then nI k else 0) := by
    rw [rf_ix0, nI_clamp (by omega)]
    exact rf_flu (by omega)
  have hF : ∀ i, i < 40 → (fun i => if i = 0 then nI k else 0) i = nI ((rf_kon k).1 i) := by
    intro i _
    show (if i = 0 then nI k else 0) = nI (if i = 0 then k else 0)
    split <;> rfl
  refine ⟨pk_in (p * 40 + 0) 960 (by omega) (rf_ix0 p), nm_r e0 (pk_eq k 0 (fun z => ⟨pk_in p 24 hp, nm_r (by rw [nI_clamp (by omega), rf_uu]) ?_⟩) (fun z => ⟨pk_in p 24 hp, nm_r (by rw [nI_clamp (by omega), rf_uu]) ?_⟩))⟩
  · refine H _ _ (rf_set (v := rf_kon k) (rf_nomono hR p) hp rfl hF ?_ (rf_gdk hk))
    show upd a2 p (-1) = upd a2 p (nI (if k = 0 then 0 else 1) - 1)
    rw [if_pos z]
    rfl
  · refine H _ _ (rf_set (v := rf_kon k) (rf_nomono hR p) hp rfl hF ?_ (rf_gdk hk))
    show upd a2 p 0 = upd a2 p (nI (if k = 0 then 0 else 1) - 1)
    rw [if_neg z]
    rfl
theorem rf_cpy {post : St2 → Prop} {c : Int32} {a1 a2 a3 : Nat → Int32} {R : Nat → Option rf_P} (p q : Nat) (v : rf_P) (hR : rf_ok R a1 a2) (hp : R p = some v) (hq : q < 24) {x y : Int32} (hx : x = nI p) (hy : y = nI q) (H : ∀ b1 b2, rf_ok (rf_up R q v) b1 b2 → post (c, b1, b2, a3)) : wpX_copy post (c, a1, a2, a3) x y := by
  subst hx hy
  obtain ⟨hp4, ⟨h1, h2⟩, h3⟩ := hR p v hp
  have E : ∃ n, wX_copy_2 post (nI p) (nI q) c n (nI 0) (rf_fl a1 q 0 (fun i => nI (v.1 i))) a2 a3 := by
    refine pk_loop (σ := Unit) (fun n i _ => wX_copy_2 post (nI p) (nI q) c n (nI i) (rf_fl a1 q i (fun i => nI (v.1 i))) a2 a3) (fun _ _ => True) 40 0 () (by omega) trivial ?_ ?_
    · intro n _ _
      exact pk_le 40 40 (fun z => ⟨pk_in p 24 hp4, pk_in q 24 hq, nm_e (H _ _ (rf_set (v := v) (rf_nomono hR q) hq rfl (fun _ _ => rfl) (by rw [nI_clamp (by omega), nI_clamp (by omega), h2]) h3))⟩) (fun z => absurd z (by omega))
    · intro n i _ hi _ hw
      refine pk_le 40 i (fun z => absurd z (by omega)) (fun _ => ⟨pk_in (p * 40 + i) 960 (by omega) (rf_ix p i), pk_in (q * 40 + i) 960 (by omega) (rf_ix q i), nm_r ?_ (nm_r (nI_1 i) (hw () trivial))⟩)
      rw [rf_cl hp4 (by omega), rf_cl hq (by omega), rf_flr (by omega), h1 i hi]
      exact rf_flS a1 q i (fun i => nI (v.1 i))
  rw [rf_fl0] at E
  exact E
/-! reduce, inverse -/
def rf_red (x : Int32) (r : Nat) : Prop := ∀ (post : Int32 → Prop) (c : Int32) (a1 a2 a3 : Nat → Int32), post (nI r) → wpX_reduce post (c, a1, a2, a3) x
theorem rf_redp {a : Nat} (h : a < 2 ^ 30) : rf_red (nI a) (a % 101) := fun post c a1 a2 a3 H => ⟨rf_101, nm_r (rf_rm (by omega)) (br_t (nI_pos' (by omega)) H)⟩
theorem rf_ndiv {w : Nat} (hw : w < 2 ^ 31) : (-nI w) / 101 = -nI (w / 101) := by
  apply Int32.toInt_inj.mp
  rw [Int32.toInt_div, sb_negT hw, sb_negT (by omega), show (101 : Int32).toInt = 101 from by decide, Int.neg_tdiv, Int.tdiv_eq_ediv_of_nonneg (by omega)]
  rw [Int.bmod_eq_of_le (by omega) (by omega)]
  omega
theorem rf_nrem {w : Nat} (hw : w < 2 ^ 31) : -nI w - (-nI w) / 101 * 101 = -nI (w % 101) := by
  have h := rf_rm hw
  rw [show nI w / 101 = nI (w / 101) from pk_div (d := 101) hw (by decide) (by decide)] at h
  rw [← h, rf_ndiv hw, Int32.neg_mul, Int32.sub_neg, Int32.neg_sub]
  rw [Int32.sub_eq_add_neg, Int32.add_comm]
theorem rf_redn {w : Nat} (hw : w < 2 ^ 30) : rf_red (-nI w) ((101 - w % 101) % 101) := by
  intro post c a1 a2 a3 H
  refine ⟨rf_101, nm_r (rf_nrem (by omega)) ?_⟩
  by_cases z : w % 101 = 0
  · rw [z] at H ⊢
    exact br_t (by decide) H
  · have hm : w % 101 < 101 := Nat.mod_lt _ (by decide)
    have e : -nI (w % 101) + 101 = nI ((101 - w % 101) % 101) := by
      apply Int32.toInt_inj.mp
      rw [Int32.toInt_add, sb_negT (by omega), nI_toInt (by omega), show (101 : Int32).toInt = 101 from by decide]
      rw [Int.bmod_eq_of_le (by omega) (by omega)]
      omega
    refine br_f ?_ (by rw [e]; exact H)
    rw [Int32.le_iff_toInt_le, sb_negT (by omega), show (0 : Int32).toInt = 0 from by decide]
    omega
theorem rf_nsub (a b : Nat) (h : a ≤ b) : nI a - nI b = -nI (b - a) := by
  rw [← pk_sub h, Int32.neg_sub]
theorem rf_reds {a b : Nat} (ha : a < 2 ^ 20) (hb : b < 2 ^ 20) : rf_red (nI a - nI b) ((a + 100 * b) % 101) := by
  by_cases h : b ≤ a
  · rw [pk_sub h, show (a + 100 * b) % 101 = (a - b) % 101 by omega]
    exact rf_redp (by omega)
  · rw [rf_nsub a b (by omega), show (a + 100 * b) % 101 = (101 - (b - a) % 101) % 101 by omega]
    exact rf_redn (by omega)
def rf_sq (a : Nat) : Nat := a * a % 101
def rf_inv (a : Nat) : Nat := (1 * a % 101 * rf_sq a % 101) * rf_sq (rf_sq (rf_sq (rf_sq (rf_sq a)))) % 101 * rf_sq (rf_sq (rf_sq (rf_sq (rf_sq (rf_sq a))))) % 101
theorem rf_invlt (a : Nat) : rf_inv a < 101 := Nat.mod_lt _ (by decide)
theorem rf_sqlt (a : Nat) : rf_sq a < 101 := Nat.mod_lt _ (by decide)
theorem rf_invm : ∀ a, a < 101 → a ≠ 0 → a * rf_inv a % 101 = 1 := by decide +kernel
theorem rf_mm {a b : Nat} (ha : a < 1000) (hb : b < 1000) : nI a * nI b - nI a * nI b / 101 * 101 = nI (a * b % 101) := by
  rw [pk_mul]
  exact rf_rm (Nat.lt_of_lt_of_le (Nat.mul_lt_mul'' ha hb) (by decide))
theorem rf_inv1 {post : Int32 → Prop} {c : Int32} {a1 a2 a3 : Nat → Int32} {n i a b : Nat} (ha : a < 101) (hb : b < 101) (hi : i < 7) (hbit : (((99 : Int32) >>> (nI i &&& 31)) &&& 1) = 1) (H : wX_inverse_7 post c a1 a2 a3 n (nI (a * b % 101)) (nI (rf_sq b)) (nI (i + 1))) : wX_inverse_7 post c a1 a2 a3 (n + 1) (nI a) (nI b) (nI i) :=
  pk_le 7 i (fun z => absurd z (by omega)) (fun _ => br_t hbit ⟨rf_101, nm_r (rf_mm (by omega) (by omega)) ⟨rf_101, nm_r (rf_mm (by omega) (by omega)) (nm_r (nI_1 i) H)⟩⟩)
theorem rf_inv2 {post : Int32 → Prop} {c : Int32} {a1 a2 a3 : Nat → Int32} {n i a b : Nat} (hb : b < 101) (hi : i < 7) (hbit : ¬ (((99 : Int32) >>> (nI i &&& 31)) &&& 1) = 1) (H : wX_inverse_7 post c a1 a2 a3 n (nI a) (nI (rf_sq b)) (nI (i + 1))) : wX_inverse_7 post c a1 a2 a3 (n + 1) (nI a) (nI b) (nI i) :=
  pk_le 7 i (fun z => absurd z (by omega)) (fun _ => br_f hbit ⟨rf_101, nm_r (rf_mm (by omega) (by omega)) (nm_r (nI_1 i) H)⟩)
theorem rf_mlt (a : Nat) : a % 101 < 101 := Nat.mod_lt _ (by decide)
theorem rf_invw {post : Int32 → Prop} {c : Int32} {a1 a2 a3 : Nat → Int32} (a : Nat) (ha : a < 101) {x : Int32} (hx : x = nI a) (H : post (nI (rf_inv a))) : wpX_inverse post (c, a1, a2, a3) x := by
  subst hx
  refine ⟨8, ?_⟩
  show wX_inverse_7 post c a1 a2 a3 (7 + 1) (nI 1) (nI a) (nI 0)
  refine rf_inv1 (by decide) ha (by decide) (by decide) ?_
  refine rf_inv1 (rf_mlt _) (rf_sqlt _) (by decide) (by decide) ?_
  refine rf_inv2 (rf_sqlt _) (by decide) (by decide) ?_
  refine rf_inv2 (rf_sqlt _) (by decide) (by decide) ?_
  refine rf_inv2 (rf_sqlt _) (by decide) (by decide) ?_
  refine rf_inv1 (rf_mlt _) (rf_sqlt _) (by decide) (by decide) ?_
  refine rf_inv1 (rf_mlt _) (rf_sqlt _) (by decide) (by decide) ?_
  exact pk_le 7 7 (fun _ => H) (fun z => absurd z (by omega))
end
section
/-! scale, add, derive, multiply -/
theorem rf_scl {post : St2 → Prop} {c : Int32} {a1 a2 a3 : Nat → Int32} {R : Nat → Option rf_P} (p u : Nat) (v r : rf_P) (hR : rf_ok R a1 a2) (hp : R p = some v) (hu : u < 101) (hr : ∀ k, k < 40 → v.1 k * u % 101 = r.1 k) (hg : rf_gd r) {x y : Int32} (hx : x = nI p) (hy : y = nI u) (H : ∀ b1 b2, rf_ok (rf_up R p r) b1 b2 → post (c, b1, b2, a3)) : wpX_scale post (c, a1, a2, a3) x y := by
  subst hx hy
  obtain ⟨hp4, ⟨h1, h2⟩, hl, hb, hz, hn⟩ := hR p v hp
  have E : ∃ n, wX_scale_2 post (nI p) (nI u) c n (nI 0) (rf_fl a1 p 0 (fun i => nI (v.1 i * u % 101))) a2 a3 := by
    refine pk_loop (σ := Unit) (fun n i _ => wX_scale_2 post (nI p) (nI u) c n (nI i) (rf_fl a1 p i (fun i => nI (v.1 i * u % 101))) a2 a3) (fun _ _ => True) 40 0 () (by omega) trivial ?_ ?_
    · intro n _ _
      refine pk_le 40 40 (fun z => rf_fit (v := r) hp4 ?_ hg (H _ _ (rf_set (v := r) (rf_nomono hR p) hp4 rfl ?_ rfl hg)) rfl) (fun z => absurd z (by omega))
      · intro i hi
        rw [rf_flk hi, hr i hi]
      · intro i hi
        exact congrArg nI (hr i hi)
    · intro n i _ hi _ hw
      refine pk_le 40 i (fun z => absurd z (by omega)) (fun _ => ⟨pk_in (p * 40 + i) 960 (by omega) (rf_ix p i), rf_101, pk_in (p * 40 + i) 960 (by omega) (rf_ix p i), nm_r ?_ (nm_r (nI_1 i) (hw () trivial))⟩)
      have hv := hb i
      rw [rf_cl hp4 (by omega), rf_flr (by omega), h1 i hi, rf_mm (by omega) (by omega)]
      exact rf_flS a1 p i (fun i => nI (v.1 i * u % 101))
  rw [rf_fl0] at E
  exact E
theorem rf_add {post : St2 → Prop} {c : Int32} {a1 a2 a3 : Nat → Int32} {R : Nat → Option rf_P} (p q t : Nat) (v w r : rf_P) (sg : Int32) (hR : rf_ok R a1 a2) (hp : R p = some v) (hq : R q = some w) (ht : t < 24) (hr : ∀ k, k < 40 → rf_red (nI (v.1 k) + sg * nI (w.1 k)) (r.1 k)) (hg : rf_gd r) {x y z : Int32} (hx : x = nI p) (hy : y = nI q) (hz : z = nI t) (H : ∀ b1 b2, rf_ok (rf_up R t r) b1 b2 → post (c, b1, b2, a3)) : wpX_add post (c, a1, a2, a3) x y sg z := by
  subst hx hy hz
  obtain ⟨hp4, ⟨h1, h2⟩, _⟩ := hR p v hp
  obtain ⟨hq4, ⟨k1, k2⟩, _⟩ := hR q w hq
  have E : ∃ n, wX_add_3 post (nI p) (nI q) sg (nI t) c n (nI 0) (rf_fl a1 t 0 (fun i => nI (r.1 i))) a2 a3 := by
    refine pk_loop (σ := Unit) (fun n i _ => wX_add_3 post (nI p) (nI q) sg (nI t) c n (nI i) (rf_fl a1 t i (fun i => nI (r.1 i))) a2 a3) (fun _ _ => True) 40 0 () (by omega) trivial ?_ ?_
    · intro n _ _
      refine pk_le 40 40 (fun z => rf_fit (v := r) ht ?_ hg (H _ _ (rf_set (v := r) (rf_nomono hR t) ht rfl (fun _ _ => rfl) rfl hg)) rfl) (fun z => absurd z (by omega))
      intro i hi
      rw [rf_flk hi]
    · intro n i _ hi _ hw
      refine pk_le 40 i (fun z => absurd z (by omega)) (fun _ => ⟨pk_in (p * 40 + i) 960 (by omega) (rf_ix p i), pk_in (q * 40 + i) 960 (by omega) (rf_ix q i), nm_r (e' := nI (v.1 i) + sg * nI (w.1 i)) ?_ (hr i hi _ _ _ _ _ ⟨pk_in (t * 40 + i) 960 (by omega) (rf_ix t i), nm_r ?_ (nm_r (nI_1 i) (hw () trivial))⟩)⟩)
      · rw [rf_cl hp4 (by omega), rf_cl hq4 (by omega), rf_flr (by omega), rf_flr (by omega), h1 i hi, k1 i hi]
      · rw [rf_cl ht (by omega)]
        exact rf_flS a1 t i (fun i => nI (r.1 i))
  rw [rf_fl0] at E
  exact E
theorem rf_der {post : St2 → Prop} {c : Int32} {a1 a2 a3 : Nat → Int32} {R : Nat → Option rf_P} (p t : Nat) (v r : rf_P) (hR : rf_ok R a1 a2) (hp : R p = some v) (ht : t < 24) (hs : v.2 ≤ 39) (hr : ∀ k, k < 40 → (k + 1) * v.1 (k + 1) % 101 = r.1 k) (hg : rf_gd r) {x y : Int32} (hx : x = nI p) (hy : y = nI t) (H : ∀ b1 b2, rf_ok (rf_up R t r) b1 b2 → post (c, b1, b2, a3)) : wpX_deriveTo post (c, a1, a2, a3) x y := by
  subst hx hy
  obtain ⟨hp4, ⟨h1, h2⟩, hl, hb, hz, hn⟩ := hR p v hp
  have E : ∃ n, wX_deriveTo_2 post (nI p) (nI t) c n (nI 0) (rf_fl a1 t 0 (fun i => nI (r.1 i))) a2 a3 := by
    refine pk_loop (σ := Unit) (fun n i _ => wX_deriveTo_2 post (nI p) (nI t) c n (nI i) (rf_fl a1 t i (fun i => nI (r.1 i))) a2 a3) (fun _ _ => True) 39 0 () (by omega) trivial ?_ ?_
    · intro n _ _
      have e9 : nI t * 40 + 40 - 1 = nI (t * 40 + 39) := by
        rw [show nI t * 40 + 40 = nI (t * 40 + 39 + 1) from rf_ix t 40, nI_pred]
      have e8 : upd (rf_fl a1 t 39 (fun i => nI (r.1 i))) (nI t * 40 + 40 - 1).toNatClampNeg 0 = rf_fl a1 t 40 (fun i => nI (r.1 i)) := by
        rw [e9, nI_clamp (by omega), ← rf_flS a1 t 39 (fun i => nI (r.1 i))]
        have h39 := hr 39 (by omega)
        rw [hz 40 (by omega)] at h39
        rw [show r.1 39 = 0 from h39.symm]
        rfl
      refine pk_le 39 39 (fun z => ⟨pk_in (t * 40 + 39) 960 (by omega) e9, nm_r e8 (rf_fit (v := r) ht ?_ hg (H _ _ (rf_set (v := r) (rf_nomono hR t) ht rfl (fun _ _ => rfl) rfl hg)) rfl)⟩) (fun z => absurd z (by omega))
      intro i hi
      rw [rf_flk hi]
    · intro n i _ hi _ hw
      have e7 : nI p * 40 + nI i + 1 = nI (p * 40 + (i + 1)) := by
        rw [rf_ix, nI_1]
        rfl
      refine pk_le 39 i (fun z => absurd z (by omega)) (fun _ => ⟨pk_in (p * 40 + (i + 1)) 960 (by omega) e7, rf_101, pk_in (t * 40 + i) 960 (by omega) (rf_ix t i), nm_r ?_ (nm_r (nI_1 i) (hw () trivial))⟩)
      have hv := hb (i + 1)
      rw [e7, nI_clamp (show p * 40 + (i + 1) < 2 ^ 31 by omega), rf_cl ht (by omega), rf_flr (by omega), h1 (i + 1) (by omega), nI_1, rf_mm (by omega) (by omega), hr i (by omega)]
      exact rf_flS a1 t i (fun i => nI (r.1 i))
  rw [rf_fl0] at E
  exact E
/-- the row that is made, at turn i, j -/
def rf_G (v w : rf_P) (i j k : Nat) : Nat := (rf_cv v.1 w.1 k i + (if i ≤ k ∧ k < i + j then v.1 i * w.1 (k - i) else 0)) % 101
theorem rf_G0 (v w : rf_P) (i k : Nat) : rf_G v w i 0 k = rf_cv v.1 w.1 k i % 101 := by
  unfold rf_G
  rw [if_neg (by omega)]
  rfl
theorem rf_Ge (v w : rf_P) (i k : Nat) (hz : ∀ i, w.2 ≤ i → w.1 i = 0) : rf_G v w i w.2 k = rf_cv v.1 w.1 k (i + 1) % 101 := by
  unfold rf_G
  rw [rf_cvS]
  by_cases h : i ≤ k
  · rw [if_pos h]
    by_cases h2 : k < i + w.2
    · rw [if_pos ⟨h, h2⟩]
    · rw [if_neg (by omega), hz (k - i) (by omega)]
      omega
  · rw [if_neg h, if_neg (by omega)]
theorem rf_GS (v w : rf_P) (i j k : Nat) : (if k = i + j then nI ((rf_G v w i j (i + j) + v.1 i * w.1 j) % 101) else nI (rf_G v w i j k)) = nI (rf_G v w i (j + 1) k) := by
  by_cases e : k = i + j
  · subst e
    rw [if_pos rfl]
    apply congrArg nI
    unfold rf_G
    rw [if_neg (by omega), if_pos (by omega), show i + j - i = j by omega]
    omega
  · rw [if_neg e]
    apply congrArg nI
    unfold rf_G
    by_cases h : i ≤ k ∧ k < i + j
    · rw [if_pos h, if_pos (by omega)]
    · rw [if_neg h, if_neg (by omega)]
theorem rf_mul22 {post : St2 → Prop} {J : Int32 → (Nat → Int32) → (Nat → Int32) → (Nat → Int32) → Prop} {c : Int32} {a1 a2 a3 : Nat → Int32} {p q t i : Nat} {v w : rf_P} (hp4 : p < 24) (hq4 : q < 24) (ht : t < 24) (hpt : p ≠ t) (hqt : q ≠ t) (h1 : ∀ i, i < 40 → a1 (p * 40 + i) = nI (v.1 i)) (k1 : ∀ i, i < 40 → a1 (q * 40 + i) = nI (w.1 i)) (k2 : a2 q = nI w.2 - 1) (gv : rf_gd v) (gw : rf_gd w) (hi : i < v.2) (hs : v.2 + w.2 ≤ 41)
    (H : J (nI (i + 1)) (rf_fl a1 t 40 (fun k => nI (rf_cv v.1 w.1 k (i + 1) % 101))) a2 a3) : ∃ n, wX_multiply_22 post J (nI p) (nI q) (nI t) (nI i) c n 0 (rf_fl a1 t 40 (fun k => nI (rf_cv v.1 w.1 k i % 101))) a2 a3 := by
  obtain ⟨hl, hb, hz, hn⟩ := gv
  obtain ⟨gl, gb, gz, gn⟩ := gw
  have E : ∃ n, wX_multiply_22 post J (nI p) (nI q) (nI t) (nI i) c n (nI 0) (rf_fl a1 t 40 (fun k => nI (rf_G v w i 0 k))) a2 a3 := by
    refine pk_loop (σ := Unit) (fun n j _ => wX_multiply_22 post J (nI p) (nI q) (nI t) (nI i) c n (nI j) (rf_fl a1 t 40 (fun k => nI (rf_G v w i j k))) a2 a3) (fun _ _ => True) w.2 0 () (by omega) trivial ?_ ?_
    · intro n _ _
      refine ⟨pk_in q 24 hq4, br_t ?_ (nm_r (nI_1 i) ?_)⟩
      · rw [nI_clamp (show q < 2 ^ 31 by omega), k2, rf_dlt (by omega) (by omega)]
        exact Nat.le_refl _
      · rw [show (fun k => nI (rf_G v w i w.2 k)) = (fun k => nI (rf_cv v.1 w.1 k (i + 1) % 101)) from funext fun k => congrArg nI (rf_Ge v w i k gz)]
        exact H
    · intro n j _ hj _ hw
      have e6 : nI t * 40 + nI i + nI j = nI (t * 40 + (i + j)) := by
        rw [rf_ix, nI_add]
        exact congrArg nI (by omega)
      have hv := hb i
      have hw' := gb j
      refine ⟨pk_in q 24 hq4, br_f ?_ (pk_le 40 (i + j) (fun z => absurd z (by omega)) (fun _ => nm_r e6 ⟨pk_in (p * 40 + i) 960 (by omega) (rf_ix p i), pk_in (q * 40 + j) 960 (by omega) (rf_ix q j), nm_r (e' := nI (v.1 i * w.1 j)) ?_ ⟨pk_in (t * 40 + (i + j)) 960 (by omega), rf_101, pk_in (t * 40 + (i + j)) 960 (by omega), nm_r ?_ (nm_r (nI_1 j) (hw () trivial))⟩⟩) rfl (nI_add i j))⟩
      · rw [nI_clamp (show q < 2 ^ 31 by omega), k2, rf_dlt (by omega) (by omega)]
        omega
      · rw [rf_cl hp4 (by omega), rf_cl hq4 (by omega), rf_flr (by omega), rf_flr (by omega), h1 i (by omega), k1 j (by omega), pk_mul]
      · have hG : rf_G v w i j (i + j) < 101 := Nat.mod_lt _ (by decide)
        have hM : v.1 i * w.1 j < 101 * 101 := Nat.mul_lt_mul'' hv hw'
        rw [nI_clamp (show t * 40 + (i + j) < 2 ^ 31 by omega), rf_flk (by omega), nI_add, rf_rm (by omega), rf_flu (by omega)]
        exact rf_flc (fun k hk => rf_GS v w i j k)
  rw [show (fun k => nI (rf_G v w i 0 k)) = (fun k => nI (rf_cv v.1 w.1 k i % 101)) from funext fun k => congrArg nI (rf_G0 v w i k)] at E
  exact E
theorem rf_mul {post : St2 → Prop} {c : Int32} {a1 a2 a3 : Nat → Int32} {R : Nat → Option rf_P} (p q t : Nat) (v w r : rf_P) (hR : rf_ok R a1 a2) (hp : R p = some v) (hq : R q = some w) (ht : t < 24) (hpt : p ≠ t) (hqt : q ≠ t) (hs : v.2 + w.2 ≤ 41) (hr : ∀ k, k < 40 → rf_cv v.1 w.1 k v.2 % 101 = r.1 k) (hg : rf_gd r) {x y z : Int32} (hx : x = nI p) (hy : y = nI q) (hz : z = nI t) (H : ∀ b1 b2, rf_ok (rf_up R t r) b1 b2 → post (c, b1, b2, a3)) : wpX_multiply post (c, a1, a2, a3) x y z := by
  subst hx hy hz
  obtain ⟨hp4, ⟨h1, h2⟩, gv⟩ := hR p v hp
  obtain ⟨hq4, ⟨k1, k2⟩, gw⟩ := hR q w hq
  unfold wpX_multiply
  dsimp only
  refine rf_clr0 ht ?_ rfl
  have E : ∃ n, wX_multiply_8 post (nI p) (nI q) (nI t) c n (nI 0) (rf_fl a1 t 40 (fun k => nI (rf_cv v.1 w.1 k 0 % 101))) (upd a2 t (nI 0 - 1)) a3 := by
    refine pk_loop (σ := Unit) (fun n i _ => wX_multiply_8 post (nI p) (nI q) (nI t) c n (nI i) (rf_fl a1 t 40 (fun k => nI (rf_cv v.1 w.1 k i % 101))) (upd a2 t (nI 0 - 1)) a3) (fun _ _ => True) v.2 0 () (by omega) trivial ?_ ?_
    · intro n _ _
      refine ⟨pk_in p 24 hp4, br_t ?_ (rf_fit (v := r) ht ?_ hg (H _ _ (rf_set (v := r) (rf_nomono hR t) ht rfl (fun i hi => congrArg nI (hr i hi)) rf_uu hg)) rfl)⟩
      · rw [nI_clamp (show p < 2 ^ 31 by omega), pk_un hpt, h2, rf_dlt (by have := gv.1; omega) (by have := gv.1; omega)]
        exact Nat.le_refl _
      · intro i hi
        rw [rf_flk hi, hr i hi]
    · intro n i _ hi _ hw
      refine ⟨pk_in p 24 hp4, br_f ?_ (rf_mul22 hp4 hq4 ht hpt hqt h1 k1 (by rw [pk_un hqt]; exact k2) gv gw hi hs (hw () trivial))⟩
      rw [nI_clamp (show p < 2 ^ 31 by omega), pk_un hpt, h2, rf_dlt (by have := gv.1; omega) (by have := gv.1; omega)]
      omega
  exact E
end
section
/-! exact division -/
theorem rf_nzd : ∀ a, a < 101 → ∀ b, b < 101 → a ≠ 0 → b ≠ 0 → a * b % 101 ≠ 0 := by decide +kernel
theorem rf_lead {a b : Nat} (ha : a < 101) (hb : b < 101) (h0 : b ≠ 0) : a * b % 101 * rf_inv b % 101 = a := by
  rw [Nat.mod_mul_mod, Nat.mul_assoc, ← Nat.mul_mod_mod, rf_invm b hb h0, Nat.mul_one]
  exact Nat.mod_eq_of_lt ha
def rf_top (f : Nat → Nat) : Nat → Nat
  | 0 => 0
  | t + 1 => if f t = 0 then rf_top f t else t + 1
def rf_rl (f : Nat → Nat) (m t : Nat) : Nat := if rf_top f t = 0 then 0 else m + rf_top f t - 1
def rf_rem (f : Nat → Nat) (w : rf_P) (t : Nat) : rf_P := (fun k => rf_cv f w.1 k t % 101, rf_rl f w.2 t)
theorem rf_rem0 (f : Nat → Nat) (w : rf_P) : rf_rem f w 0 = rf_zp := rfl
theorem rf_remS0 {f : Nat → Nat} {w : rf_P} {t : Nat} (h : f t = 0) : rf_rem f w (t + 1) = rf_rem f w t := by
  unfold rf_rem
  refine Prod.ext (funext fun k => ?_) ?_
  · dsimp only
    rw [rf_cvS, h]
    split <;> omega
  · dsimp only
    unfold rf_rl
    rw [show rf_top f (t + 1) = rf_top f t from if_pos h]
theorem rf_rlS {f : Nat → Nat} {m t : Nat} (h : f t ≠ 0) : rf_rl f m (t + 1) = m + t := by
  unfold rf_rl
  rw [show rf_top f (t + 1) = t + 1 from if_neg h, if_neg (by omega)]
  omega
/-- the highest coefficient of what is left -/
theorem rf_remL {f : Nat → Nat} {w : rf_P} {t : Nat} (gw : rf_gd w) (h0 : 0 < w.2) : rf_cv f w.1 (w.2 + t - 1) (t + 1) = f t * w.1 (w.2 - 1) := by
  rw [rf_cvS, rf_cv0 gw.2.2.1 _ t (by omega), if_pos (by omega), show w.2 + t - 1 - t = w.2 - 1 by omega]
  omega
theorem rf_gdrem {f : Nat → Nat} {w : rf_P} (gw : rf_gd w) (h0 : 0 < w.2) (hf : ∀ i, f i < 101) : ∀ t, t + w.2 ≤ 41 → rf_gd (rf_rem f w t)
  | 0, _ => rf_gdz
  | t + 1, h => by
    by_cases z : f t = 0
    · rw [rf_remS0 z]
      exact rf_gdrem gw h0 hf t (by omega)
    · refine ⟨?_, fun i => Nat.mod_lt _ (by decide), fun i hi => ?_, fun hi => ?_⟩
      · show rf_rl f w.2 (t + 1) ≤ 40
        rw [rf_rlS z]
        omega
      · have hi' : rf_rl f w.2 (t + 1) ≤ i := hi
        rw [rf_rlS z] at hi'
        show rf_cv f w.1 i (t + 1) % 101 = 0
        rw [rf_cv0 gw.2.2.1 i (t + 1) (by omega)]
      · show rf_cv f w.1 (rf_rl f w.2 (t + 1) - 1) (t + 1) % 101 ≠ 0
        rw [rf_rlS z, rf_remL gw h0]
        exact rf_nzd _ (hf t) _ (gw.2.1 _) z (gw.2.2.2 h0)
theorem rf_gdu {f : Nat → Nat} {n m : Nat} (h1 : rf_gd (f, n)) (h2 : rf_gd (f, m)) : n = m := by
  obtain ⟨_, _, z1, l1⟩ := h1
  obtain ⟨_, _, z2, l2⟩ := h2
  dsimp only at z1 z2 l1 l2
  rcases Nat.lt_trichotomy n m with h | h | h
  · exact absurd (z1 (m - 1) (by omega)) (l2 (by omega))
  · exact h
  · exact absurd (z2 (n - 1) (by omega)) (l1 (by omega))
/-- a product is what is to be divided -/
theorem rf_remE {v w s : rf_P} (gv : rf_gd v) (gw : rf_gd w) (gs : rf_gd s) (h0 : 0 < w.2) (hs : s.2 + w.2 ≤ 41) (hr : ∀ k, k < 40 → rf_cv s.1 w.1 k s.2 % 101 = v.1 k) : v = rf_rem s.1 w s.2 := by
  have e1 : v.1 = (rf_rem s.1 w s.2).1 := by
    funext k
    by_cases z : k < 40
    · exact (hr k z).symm
    · show v.1 k = rf_cv s.1 w.1 k s.2 % 101
      have := gv.1
      rw [gv.2.2.1 k (by omega), rf_cv0 gw.2.2.1 k s.2 (by omega)]
  have g2 := rf_gdrem gw h0 gs.2.1 s.2 hs
  refine Prod.ext e1 (rf_gdu (f := v.1) gv ?_)
  rw [e1]
  exact g2
/-- what the quotient's row holds when t terms are left -/
def rf_qc (R : Nat → Option rf_P) (f : Nat → Nat) (p q : Nat) (x3 : Int32) (t : Nat) (a1 : Nat → Int32) : Prop := x3 = -1 ∨ ∃ z, x3 = nI z ∧ z < 24 ∧ z ≠ p ∧ z ≠ q ∧ R z = none ∧ ∀ k, k < 40 → a1 (z * 40 + k) = nI (if t ≤ k then f k else 0)
def rf_D (f : Nat → Nat) (w : rf_P) (t i k : Nat) : Nat := if t ≤ k ∧ k < t + i then rf_cv f w.1 k t % 101 else rf_cv f w.1 k (t + 1) % 101
theorem rf_De {f : Nat → Nat} {w : rf_P} {t : Nat} (gw : rf_gd w) (k : Nat) : rf_D f w t w.2 k = rf_cv f w.1 k t % 101 := by
  unfold rf_D
  by_cases h : t ≤ k ∧ k < t + w.2
  · rw [if_pos h]
  · rw [if_neg h, rf_cvS]
    by_cases h2 : t ≤ k
    · rw [if_pos h2, gw.2.2.1 (k - t) (by omega)]
      rfl
    · rw [if_neg h2]
      rfl
theorem rf_DS {f : Nat → Nat} {w : rf_P} {t i : Nat} (k : Nat) : (if k = t + i then nI (rf_cv f w.1 (t + i) t % 101) else nI (rf_D f w t i k)) = nI (rf_D f w t (i + 1) k) := by
  by_cases e : k = t + i
  · subst e
    rw [if_pos rfl]
    unfold rf_D
    rw [if_pos (by omega)]
  · rw [if_neg e]
    apply congrArg nI
    unfold rf_D
    by_cases h : t ≤ k ∧ k < t + i
    · rw [if_pos h, if_pos (by omega)]
    · rw [if_neg h, if_neg (by omega)]
theorem rf_Dr {f : Nat → Nat} {w : rf_P} {t i : Nat} : (rf_D f w t i (t + i) + 100 * (f t * w.1 i)) % 101 = rf_cv f w.1 (t + i) t % 101 := by
  unfold rf_D
  rw [if_neg (by omega), rf_cvS, if_pos (by omega), show t + i - t = i by omega]
  omega
theorem rf_d98 {post : St2 → Prop} {J : Int32 → Int32 → (Nat → Int32) → (Nat → Int32) → (Nat → Int32) → Prop} {c x3 x4 x5 : Int32} {a1 a2 a3 : Nat → Int32} {p q t : Nat} {w : rf_P} {f : Nat → Nat} (hp4 : p < 24) (hq4 : q < 24) (hpq : p ≠ q) (hf : f t < 101) (h1 : ∀ i, i < 40 → a1 (p * 40 + i) = nI (rf_cv f w.1 i (t + 1) % 101)) (k1 : ∀ i, i < 40 → a1 (q * 40 + i) = nI (w.1 i)) (k2 : a2 q = nI w.2 - 1) (gw : rf_gd w) (hs : t + w.2 ≤ 40)
    (H : (x3 < 0 → wX_divide_179 post J (nI p) (nI q) x3 x4 x5 c (rf_fl a1 p 40 (fun k => nI (rf_cv f w.1 k t % 101))) a2 a3) ∧ (¬ x3 < 0 → (vp_in ((x3 * 40) + nI t) 960 ∧ ∀ a : Nat → Int32, a = upd (rf_fl a1 p 40 (fun k => nI (rf_cv f w.1 k t % 101))) ((x3 * 40) + nI t).toNatClampNeg (nI (f t)) → wX_divide_179 post J (nI p) (nI q) x3 x4 x5 c a a2 a3))) :
    ∃ n, wX_divide_98 post J (nI p) (nI q) x3 x4 x5 (nI t) (nI (f t)) c n 0 a1 a2 a3 := by
  obtain ⟨gl, gb, gz, gn⟩ := id gw
  have E : ∃ n, wX_divide_98 post J (nI p) (nI q) x3 x4 x5 (nI t) (nI (f t)) c n (nI 0) (rf_fl a1 p 40 (fun k => nI (rf_D f w t 0 k))) a2 a3 := by
    refine pk_loop (σ := Unit) (fun n i _ => wX_divide_98 post J (nI p) (nI q) x3 x4 x5 (nI t) (nI (f t)) c n (nI i) (rf_fl a1 p 40 (fun k => nI (rf_D f w t i k))) a2 a3) (fun _ _ => True) w.2 0 () (by omega) trivial ?_ ?_
    · intro n _ _
      refine ⟨pk_in q 24 hq4, br_t ?_ ?_⟩
      · rw [nI_clamp (show q < 2 ^ 31 by omega), k2, rf_dlt (by omega) (by omega)]
        exact Nat.le_refl _
      · rw [show (fun k => nI (rf_D f w t w.2 k)) = (fun k => nI (rf_cv f w.1 k t % 101)) from funext fun k => congrArg nI (rf_De gw k)]
        exact H
    · intro n i _ hi _ hw
      have e6 : nI p * 40 + nI i + nI t = nI (p * 40 + (t + i)) := by
        rw [rf_ix, nI_add]
        exact congrArg nI (by omega)
      have hD : rf_D f w t i (t + i) < 101 := by
        unfold rf_D
        split <;> exact Nat.mod_lt _ (by decide)
      have hM : f t * w.1 i < 101 * 101 := Nat.mul_lt_mul'' hf (gb i)
      have hred := rf_reds (a := rf_D f w t i (t + i)) (b := f t * w.1 i) (by omega) (by omega)
      rw [rf_Dr] at hred
      refine ⟨pk_in q 24 hq4, br_f ?_ (nm_r e6 ⟨pk_in (p * 40 + (t + i)) 960 (by omega), pk_in (q * 40 + i) 960 (by omega) (rf_ix q i), ?_⟩)⟩
      · rw [nI_clamp (show q < 2 ^ 31 by omega), k2, rf_dlt (by omega) (by omega)]
        omega
      · rw [nI_clamp (show p * 40 + (t + i) < 2 ^ 31 by omega), rf_cl hq4 (by omega), rf_flk (by omega), rf_flr (by omega), k1 i (by omega), pk_mul]
        refine hred _ _ _ _ _ ⟨pk_in (p * 40 + (t + i)) 960 (by omega), nm_r ?_ (nm_r (nI_1 i) (hw () trivial))⟩
        rw [rf_flu (by omega)]
        exact rf_flc (fun k hk => rf_DS k)
  have e0 : rf_fl a1 p 40 (fun k => nI (rf_D f w t 0 k)) = a1 := by
    refine rf_flid (fun k hk => ?_)
    rw [h1 k hk]
    apply congrArg nI
    unfold rf_D
    rw [if_neg (by omega)]
  rw [e0] at E
  exact E
theorem rf_fls {b G : Nat → Int32} {z t : Nat} {x : Int32} (ht : t < 40) (h1 : G t = x) (h2 : ∀ k, k < 40 → k ≠ t → G k = b (z * 40 + k)) : upd b (z * 40 + t) x = rf_fl b z 40 G := by
  have e : rf_fl b z 40 (fun k => b (z * 40 + k)) = b := rf_flid (fun k hk => rfl)
  rw [← e, rf_flu ht, rf_fl2]
  refine rf_flc (fun k hk => ?_)
  by_cases z : k = t
  · rw [if_pos z, z, h1]
  · rw [if_neg z, h2 k hk z]
theorem rf_upno {R : Nat → Option rf_P} {p : Nat} {v : rf_P} {a1 a2 : Nat → Int32} (h : rf_ok (rf_up R p v) a1 a2) : rf_ok (rf_no R p) a1 a2 := by
  refine rf_mono h (fun k u e => ?_)
  by_cases z : k = p
  · rw [z, rf_ns] at e
    exact absurd e (by simp)
  · rw [rf_nn z] at e
    rw [rf_un z]
    exact e
theorem rf_d34 {post : St2 → Prop} {c x3 : Int32} {a3 : Nat → Int32} {R : Nat → Option rf_P} {p q : Nat} {w : rf_P} {f : Nat → Nat} (hq : R q = some w) (hp4 : p < 24) (hpq : p ≠ q) (h0 : 0 < w.2) (hf : ∀ i, f i < 101)
    (Hend : ∀ b1 b2, rf_ok (rf_up R p rf_zp) b1 b2 → rf_qc R f p q x3 0 b1 → wX_divide_190 post x3 c b1 b2 a3) :
    ∀ t, t + w.2 ≤ 41 → ∀ n, t < n → ∀ i, i + t ≤ 40 → ∀ a1 a2, rf_ok (rf_up R p (rf_rem f w t)) a1 a2 → rf_qc R f p q x3 t a1 → wX_divide_34 post (nI p) (nI q) x3 (nI (rf_inv (w.1 (w.2 - 1)))) n (nI i) c a1 a2 a3
  | 0, _, 0, hn, _, _, _, _, _, _ => absurd hn (by omega)
  | 0, _, n + 1, _, i, hi, a1, a2, hk, hc => by
    obtain ⟨_, ⟨_, h2⟩, _⟩ := hk p _ rf_us
    obtain ⟨hq4, ⟨k1, k2⟩, gw⟩ := hk q w (by rw [rf_un (Ne.symm hpq)]; exact hq)
    have h2' : a2 p = nI 0 - 1 := h2
    have := gw.1
    refine pk_le 40 i (fun _ => Hend a1 a2 hk hc) (fun _ => ⟨pk_in p 24 hp4, pk_in q 24 hq4, br_t ?_ (Hend a1 a2 hk hc)⟩)
    rw [nI_clamp (show p < 2 ^ 31 by omega), nI_clamp (show q < 2 ^ 31 by omega), h2', k2, rf_dlt2 (by omega) (by omega)]
    exact h0
  | t + 1, ht, 0, hn, _, _, _, _, _, _ => absurd hn (by omega)
  | t + 1, ht, n + 1, hn, i, hi, a1, a2, hk, hc => by
    by_cases z : f t = 0
    · refine rf_d34 hq hp4 hpq h0 hf Hend t (by omega) (n + 1) (by omega) i (by omega) a1 a2 (by rw [← rf_remS0 z]; exact hk) ?_
      rcases hc with hc | ⟨y, y1, y2, y3, y4, y5, y6⟩
      · exact Or.inl hc
      · refine Or.inr ⟨y, y1, y2, y3, y4, y5, fun k hk => ?_⟩
        rw [y6 k hk]
        apply congrArg nI
        by_cases e : t = k
        · rw [if_neg (by omega), ← e, z]
          split <;> rfl
        · by_cases e2 : t < k
          · rw [if_pos (by omega), if_pos (by omega)]
          · rw [if_neg (by omega), if_neg (by omega)]
    · obtain ⟨_, ⟨h1, h2⟩, gp⟩ := hk p _ rf_us
      obtain ⟨hq4, ⟨k1, k2⟩, gw⟩ := hk q w (by rw [rf_un (Ne.symm hpq)]; exact hq)
      have h2' : a2 p = nI (w.2 + t) - 1 := by
        rw [h2]
        show nI (rf_rl f w.2 (t + 1)) - 1 = _
        rw [rf_rlS z]
      have h1' : ∀ i, i < 40 → a1 (p * 40 + i) = nI (rf_cv f w.1 i (t + 1) % 101) := h1
      have gwl := gw.1
      have eA : a2 (nI p).toNatClampNeg = nI (w.2 + t - 1) := by
        rw [nI_clamp (show p < 2 ^ 31 by omega), h2', rf_dp (by omega)]
      have eB : a2 (nI q).toNatClampNeg = nI (w.2 - 1) := by
        rw [nI_clamp (show q < 2 ^ 31 by omega), k2, rf_dp (by omega)]
      have gr := rf_gdrem gw h0 hf t (by omega)
      refine pk_le 40 i (fun z => absurd z (by omega)) (fun _ => ⟨pk_in p 24 hp4, pk_in q 24 hq4, ?_⟩)
      rw [eA, eB]
      refine br_f (nI_nlt (by omega) (by omega)) ⟨pk_in p 24 hp4, pk_in q 24 hq4, nm_r (e' := nI t) ?_ ⟨pk_in p 24 hp4, pk_in (p * 40 + (w.2 + t - 1)) 960 (by omega) (rf_ix _ _), rf_101, nm_r (e' := nI (f t)) ?_ (rf_d98 hp4 hq4 hpq (hf t) h1' k1 k2 gw (by omega) ?_)⟩⟩
      · rw [pk_sub (by omega)]
        exact congrArg nI (by omega)
      · have := rf_invlt (w.1 (w.2 - 1))
        have h9 := rf_mlt (f t * w.1 (w.2 - 1))
        rw [rf_cl hp4 (by omega), h1' _ (by omega), rf_remL gw h0, rf_mm (by omega) (by omega), rf_lead (hf t) (gw.2.1 _) (gw.2.2.2 h0)]
      · have ok1 : rf_ok (rf_up R p (rf_rem f w t)) (rf_fl a1 p 40 (fun k => nI (rf_cv f w.1 k t % 101))) (upd a2 p (nI (rf_rem f w t).2 - 1)) := rf_set (v := rf_rem f w t) (rf_upno hk) hp4 rfl (fun _ _ => rfl) rfl gr
        rcases hc with hc | ⟨y, y1, y2, y3, y4, y5, y6⟩
        · subst hc
          refine br_t (by decide) ?_
          unfold wX_divide_179
          refine rf_fit (v := rf_rem f w t) hp4 (fun i hi => rf_flk hi) gr ?_ rfl
          exact nm_r (nI_1 i) (rf_d34 hq hp4 hpq h0 hf Hend t (by omega) n (by omega) (i + 1) (by omega) _ _ ok1 (Or.inl rfl))
        · subst y1
          refine br_f (nI_pos (by omega)) ⟨pk_in (y * 40 + t) 960 (by omega) (rf_ix y t), nm_r (e' := rf_fl (rf_fl a1 p 40 (fun k => nI (rf_cv f w.1 k t % 101))) y 40 (fun k => nI (if t ≤ k then f k else 0))) ?_ ?_⟩
          · rw [rf_cl y2 (by omega)]
            refine rf_fls (by omega) (by rw [if_pos (Nat.le_refl t)]) (fun k hk hne => ?_)
            rw [rf_flr (by omega), y6 k hk]
            apply congrArg nI
            by_cases e2 : t < k
            · rw [if_pos (by omega), if_pos (by omega)]
            · rw [if_neg (by omega), if_neg (by omega)]
          · unfold wX_divide_179
            refine rf_fit (v := rf_rem f w t) hp4 (fun i hi => ?_) gr ?_ rfl
            · rw [rf_flr (by omega)]
              exact rf_flk hi
            · refine nm_r (nI_1 i) (rf_d34 hq hp4 hpq h0 hf Hend t (by omega) n (by omega) (i + 1) (by omega) _ _ (rf_oth ok1 ?_) (Or.inr ⟨y, rfl, y2, y3, y4, y5, fun k hk => rf_flk hk⟩))
              rw [rf_un y3]
              exact y5
theorem rf_d9 {post : St2 → Prop} {c x3 : Int32} {a1 a2 a3 : Nat → Int32} {R : Nat → Option rf_P} {p q : Nat} {v w s : rf_P} (hR : rf_ok R a1 a2) (hp : R p = some v) (hq : R q = some w) (hpq : p ≠ q) (h0 : 0 < w.2) (gs : rf_gd s) (hs : s.2 + w.2 ≤ 41) (hr : ∀ k, k < 40 → rf_cv s.1 w.1 k s.2 % 101 = v.1 k) (hc : rf_qc R s.1 p q x3 s.2 a1)
    (Hend : ∀ b1 b2, rf_ok (rf_up R p rf_zp) b1 b2 → rf_qc R s.1 p q x3 0 b1 → wX_divide_190 post x3 c b1 b2 a3) : wX_divide_9 post (nI p) (nI q) x3 c a1 a2 a3 := by
  obtain ⟨hp4, _, gv⟩ := hR p v hp
  obtain ⟨hq4, ⟨k1, k2⟩, gw⟩ := hR q w hq
  have gwl := gw.1
  have ev := rf_remE gv gw gs h0 hs hr
  have hk : rf_ok (rf_up R p (rf_rem s.1 w s.2)) a1 a2 := by
    refine rf_mono hR (fun k u e => ?_)
    by_cases z : k = p
    · rw [z, rf_us] at e
      rw [z, hp, ev]
      exact e
    · rw [rf_un z] at e
      exact e
  have eB : a2 (nI q).toNatClampNeg = nI (w.2 - 1) := by
    rw [nI_clamp (show q < 2 ^ 31 by omega), k2, rf_dp (by omega)]
  unfold wX_divide_9
  rw [eB, rf_cl hq4 (by omega), k1 _ (by omega)]
  refine ⟨pk_in q 24 hq4, pk_in (q * 40 + (w.2 - 1)) 960 (by omega) (rf_ix _ _), rf_invw _ (gw.2.1 _) rfl ⟨41, ?_⟩⟩
  exact rf_d34 hq hp4 hpq h0 gs.2.1 Hend s.2 hs 41 (by omega) 0 (by omega) a1 a2 hk hc
/-- without a quotient -/
theorem rf_divN {post : St2 → Prop} {c : Int32} {a1 a2 a3 : Nat → Int32} {R : Nat → Option rf_P} (p q : Nat) (v w s : rf_P) (hR : rf_ok R a1 a2) (hp : R p = some v) (hq : R q = some w) (hpq : p ≠ q) (h0 : 0 < w.2) (gs : rf_gd s) (hs : s.2 + w.2 ≤ 41) (hr : ∀ k, k < 40 → rf_cv s.1 w.1 k s.2 % 101 = v.1 k) {x y : Int32} (hx : x = nI p) (hy : y = nI q) (H : ∀ b1 b2, rf_ok (rf_up R p rf_zp) b1 b2 → post (c, b1, b2, a3)) : wpX_divide post (c, a1, a2, a3) x y (-1) := by
  subst hx hy
  exact br_t (by decide) (rf_d9 hR hp hq hpq h0 gs hs hr (Or.inl rfl) (fun b1 b2 hb _ => br_t (by decide) (H b1 b2 hb)))
/-- nothing to do: the divisor is longer -/
theorem rf_div0 {post : St2 → Prop} {c : Int32} {a1 a2 a3 : Nat → Int32} {R : Nat → Option rf_P} (p q : Nat) (v w : rf_P) (hR : rf_ok R a1 a2) (hp : R p = some v) (hq : R q = some w) (hlt : v.2 < w.2) {x y : Int32} (hx : x = nI p) (hy : y = nI q) (H : post (c, a1, a2, a3)) : wpX_divide post (c, a1, a2, a3) x y (-1) := by
  subst hx hy
  obtain ⟨hp4, ⟨h1, h2⟩, gv⟩ := hR p v hp
  obtain ⟨hq4, ⟨k1, k2⟩, gw⟩ := hR q w hq
  have gwl := gw.1
  have eB : a2 (nI q).toNatClampNeg = nI (w.2 - 1) := by
    rw [nI_clamp (show q < 2 ^ 31 by omega), k2, rf_dp (by omega)]
  refine br_t (by decide) ?_
  unfold wX_divide_9
  rw [eB, rf_cl hq4 (by omega), k1 _ (by omega)]
  refine ⟨pk_in q 24 hq4, pk_in (q * 40 + (w.2 - 1)) 960 (by omega) (rf_ix _ _), rf_invw _ (gw.2.1 _) rfl ⟨1, ?_⟩⟩
  refine pk_le 40 0 (fun z => absurd z (by omega)) (fun _ => ⟨pk_in p 24 hp4, pk_in q 24 hq4, br_t ?_ (br_t (by decide) H)⟩)
  rw [nI_clamp (show p < 2 ^ 31 by omega), nI_clamp (show q < 2 ^ 31 by omega), h2, k2, rf_dlt2 (by omega) (by omega)]
  exact hlt
/-- with a quotient -/
theorem rf_divQ {post : St2 → Prop} {c : Int32} {a1 a2 a3 : Nat → Int32} {R : Nat → Option rf_P} (p q z : Nat) (v w s : rf_P) (hR : rf_ok R a1 a2) (hp : R p = some v) (hq : R q = some w) (hpq : p ≠ q) (hz : z < 24) (hzp : z ≠ p) (hzq : z ≠ q) (h0 : 0 < w.2) (gs : rf_gd s) (hs : s.2 + w.2 ≤ 41) (hr : ∀ k, k < 40 → rf_cv s.1 w.1 k s.2 % 101 = v.1 k) {x y x3 : Int32} (hx : x = nI p) (hy : y = nI q) (h3 : x3 = nI z) (H : ∀ b1 b2, rf_ok (rf_up (rf_up R p rf_zp) z s) b1 b2 → post (c, b1, b2, a3)) : wpX_divide post (c, a1, a2, a3) x y x3 := by
  subst hx hy h3
  refine br_f (nI_pos (by omega)) (rf_clr0 hz ?_ rfl)
  have ok0 : rf_ok (rf_no R z) (rf_fl a1 z 40 (fun _ => 0)) (upd a2 z (nI 0 - 1)) := rf_othd (rf_oth (rf_nomono hR z) rf_ns) rf_ns
  refine rf_d9 ok0 (by rw [rf_nn (Ne.symm hzp)]; exact hp) (by rw [rf_nn (Ne.symm hzq)]; exact hq) hpq h0 gs hs hr (Or.inr ⟨z, rfl, hz, hzp, hzq, rf_ns, fun k hk => ?_⟩) (fun b1 b2 hb hc => br_f (nI_pos (by omega)) ?_)
  · rw [rf_flk hk]
    by_cases e : s.2 ≤ k
    · rw [if_pos e, gs.2.2.1 k e]
      rfl
    · rw [if_neg e]
      rfl
  · rcases hc with hc | ⟨y, y1, y2, y3, y4, y5, y6⟩
    · exact absurd hc (by rw [← Int32.toInt_inj, nI_toInt (by omega)]; show ¬ (z : Int) = -1; omega)
    · have ey : z = y := (nI_eq (by omega) (by omega)).mp y1
      subst ey
      have y7 : ∀ k, k < 40 → b1 (z * 40 + k) = nI (s.1 k) := fun k hk => by rw [y6 k hk, if_pos (Nat.zero_le k)]
      refine rf_fit (v := s) hz y7 gs (H _ _ (rf_set (F := fun k => b1 (z * 40 + k)) (a1 := b1) (a2 := b2) ?_ hz (rf_flid (fun k hk => rfl)).symm y7 rfl gs)) rfl
      refine rf_mono hb (fun k u e => ?_)
      by_cases ez : k = z
      · rw [ez, rf_ns] at e
        exact absurd e (by simp)
      · rw [rf_nn ez] at e
        by_cases ep : k = p
        · rw [ep, rf_us] at e ⊢
          exact e
        · rw [rf_un ep] at e ⊢
          rw [rf_nn ez]
          exact e
end
section
/-! lowest terms -/
def rf_er (R : Nat → Option rf_P) : Nat → Option rf_P := fun k => if 12 ≤ k ∧ k < 16 then none else R k
theorem rf_erup {R : Nat → Option rf_P} {p : Nat} {v : rf_P} (h : 12 ≤ p ∧ p < 16) : rf_er (rf_up R p v) = rf_er R := by
  funext k
  unfold rf_er
  by_cases z : 12 ≤ k ∧ k < 16
  · rw [if_pos z, if_pos z]
  · rw [if_neg z, if_neg z, rf_un (by omega)]
theorem rf_ern {R : Nat → Option rf_P} {k : Nat} (h : ¬ (12 ≤ k ∧ k < 16)) : rf_er R k = R k := if_neg h
theorem rf_ery {R : Nat → Option rf_P} {k : Nat} {v : rf_P} (h : rf_er R k = some v) : ¬ (12 ≤ k ∧ k < 16) := fun z => by
  unfold rf_er at h
  rw [if_pos z] at h
  exact absurd h (by simp)
theorem rf_m1 {a : Nat} (h : a < 101) : a * 1 % 101 = a := by omega
theorem rf_l87 {post : St2 → Prop} {c : Int32} {a1 a2 a3 : Nat → Int32} {R : Nat → Option rf_P} {p q : Nat} {v w g s1 s2 r1 r2 : rf_P} {u : Nat} (hR : rf_ok R a1 a2) (hp : R p = some v) (hq : R q = some w) (hg : R 12 = some g) (hpq : p ≠ q) (hp' : ¬ (12 ≤ p ∧ p < 16)) (hq' : ¬ (12 ≤ q ∧ q < 16)) (g0 : 0 < g.2) (gs1 : rf_gd s1) (gs2 : rf_gd s2) (hs1 : s1.2 + g.2 ≤ 41) (hs2 : s2.2 + g.2 ≤ 41) (hr1 : ∀ k, k < 40 → rf_cv s1.1 g.1 k s1.2 % 101 = v.1 k) (hr2 : ∀ k, k < 40 → rf_cv s2.1 g.1 k s2.2 % 101 = w.1 k) (s0 : 0 < s2.2) (hu : u = rf_inv (s2.1 (s2.2 - 1))) (e1 : ∀ k, k < 40 → s1.1 k * u % 101 = r1.1 k) (e2 : ∀ k, k < 40 → s2.1 k * u % 101 = r2.1 k) (gr1 : rf_gd r1) (gr2 : rf_gd r2)
    (H : ∀ b1 b2, rf_ok (rf_up (rf_up (rf_er R) p r1) q r2) b1 b2 → post (c, b1, b2, a3)) : wX_lower_87 post (nI p) (nI q) c a1 a2 a3 := by
  have hp4 := (hR p v hp).1
  have hq4 := (hR q w hq).1
  have hu4 : u < 101 := by rw [hu]; exact rf_invlt _
  unfold wX_lower_87
  refine rf_cpy p 14 v hR hp (by decide) rfl rfl (fun b1 b2 k1 => ?_)
  refine rf_divQ 14 12 15 v g s1 k1 rf_us (by rw [rf_un (by decide)]; exact hg) (by decide) (by decide) (by decide) (by decide) g0 gs1 hs1 hr1 rfl rfl rfl (fun b1 b2 k2 => ?_)
  refine rf_cpy 15 p s1 k2 rf_us hp4 rfl rfl (fun b1 b2 k3 => ?_)
  refine rf_cpy q 14 w k3 (by rw [rf_un (Ne.symm hpq), rf_un (by omega), rf_un (by omega), rf_un (by omega)]; exact hq) (by decide) rfl rfl (fun b1 b2 k4 => ?_)
  refine rf_divQ 14 12 15 w g s2 k4 rf_us (by rw [rf_un (by decide), rf_un (by omega), rf_un (by decide), rf_un (by decide), rf_un (by decide)]; exact hg) (by decide) (by decide) (by decide) (by decide) g0 gs2 hs2 hr2 rfl rfl rfl (fun b1 b2 k5 => ?_)
  refine rf_cpy 15 q s2 k5 rf_us hq4 rfl rfl (fun b1 b2 k6 => ?_)
  obtain ⟨_, ⟨m1, m2⟩, _⟩ := k6 q s2 rf_us
  have sl := gs2.1
  have eB : b2 (nI q).toNatClampNeg = nI (s2.2 - 1) := by
    rw [nI_clamp (show q < 2 ^ 31 by omega), m2, rf_dp s0]
  refine ⟨pk_in q 24 hq4, pk_in (q * 40 + (s2.2 - 1)) 960 (by omega) (by rw [eB, rf_ix]), rf_invw (s2.1 (s2.2 - 1)) (gs2.2.1 _) (by rw [eB, rf_cl hq4 (by omega), m1 _ (by omega)]) ?_⟩
  rw [← hu]
  refine rf_scl p u s1 r1 k6 (by rw [rf_un hpq, rf_un (by omega), rf_un (by omega), rf_un (by omega)]; exact rf_us) hu4 e1 gr1 rfl rfl (fun b1 b2 k7 => ?_)
  refine rf_scl q u s2 r2 k7 (by rw [rf_un (Ne.symm hpq)]; exact rf_us) hu4 e2 gr2 rfl rfl (fun b1 b2 k8 => H _ _ (rf_mono k8 (fun k x e => ?_)))
  by_cases zq : k = q
  · subst zq
    rw [rf_us] at e ⊢
    exact e
  · by_cases zp : k = p
    · subst zp
      rw [rf_un zq, rf_us] at e ⊢
      exact e
    · rw [rf_un zq, rf_un zp] at e ⊢
      have z := rf_ery e
      rw [rf_ern z] at e
      rw [rf_un zq, rf_un (by omega), rf_un (by omega), rf_un (by omega), rf_un zp, rf_un (by omega), rf_un (by omega), rf_un (by omega)]
      exact e
def rf_Low (p q : Nat) (R R' : Nat → Option rf_P) : Prop := ∀ (post : St2 → Prop) (c : Int32) (a1 a2 a3 : Nat → Int32), rf_ok R a1 a2 → (∀ b1 b2, rf_ok R' b1 b2 → post (c, b1, b2, a3)) → wpX_lower post (c, a1, a2, a3) (nI p) (nI q)
theorem rf_Lm {p q : Nat} {R R' R'' : Nat → Option rf_P} (h : rf_Low p q R R') (hm : ∀ k v, R'' k = some v → R' k = some v) : rf_Low p q R R'' := fun post c a1 a2 a3 hR H => h post c a1 a2 a3 hR (fun b1 b2 hb => H b1 b2 (rf_mono hb hm))
/-- the numerator is 0 -/
theorem rf_low0 {R : Nat → Option rf_P} (p q : Nat) (v : rf_P) (hp : R p = some v) (hq : q < 24) (v0 : v.2 = 0) : rf_Low p q R (rf_up R q rf_one) := by
  intro post c a1 a2 a3 hR H
  obtain ⟨hp4, ⟨h1, h2⟩, gv⟩ := hR p v hp
  refine ⟨pk_in p 24 hp4, br_f ?_ (rf_con q 1 hR hq (by decide) rfl rfl (fun b1 b2 hb => H b1 b2 hb))⟩
  rw [nI_clamp (show p < 2 ^ 31 by omega), h2, v0]
  decide
/-- the denominator divides the numerator -/
theorem rf_low1 {R : Nat → Option rf_P} (p q : Nat) (v w s : rf_P) (hp : R p = some v) (hq : R q = some w) (hpq : p ≠ q) (hp' : ¬ (12 ≤ p ∧ p < 16)) (hq' : ¬ (12 ≤ q ∧ q < 16)) (v0 : 0 < v.2) (w0 : 0 < w.2) (gs : rf_gd s) (hs : s.2 + w.2 ≤ 41) (hr : ∀ k, k < 40 → rf_cv s.1 w.1 k s.2 % 101 = v.1 k) : rf_Low p q R (rf_up (rf_up (rf_er R) p s) q rf_one) := by
  intro post c a1 a2 a3 hR H
  obtain ⟨hp4, ⟨h1, h2⟩, gv⟩ := hR p v hp
  have hq4 := (hR q w hq).1
  have gvl := gv.1
  refine ⟨pk_in p 24 hp4, br_t ?_ ?_⟩
  · rw [nI_clamp (show p < 2 ^ 31 by omega), h2, rf_d0 (by omega)]
    exact v0
  refine rf_cpy p 12 v hR hp (by decide) rfl rfl (fun b1 b2 k1 => ?_)
  refine rf_cpy q 13 w k1 (by rw [rf_un (by omega)]; exact hq) (by decide) rfl rfl (fun b1 b2 k2 => ⟨2, ?_⟩)
  obtain ⟨_, ⟨_, d13⟩, gw⟩ := k2 13 w rf_us
  have gwl := gw.1
  refine pk_le 80 0 (fun z => absurd z (by omega)) (fun _ => br_f (by rw [d13, rf_dz (by omega)]; omega) ?_)
  refine rf_divN 12 13 v w s k2 (by rw [rf_un (by decide)]; exact rf_us) rf_us (by decide) w0 gs hs hr rfl rfl (fun b1 b2 k3 => ?_)
  refine rf_cpy 12 14 rf_zp k3 rf_us (by decide) rfl rfl (fun b1 b2 k4 => ?_)
  refine rf_cpy 13 12 w k4 (by rw [rf_un (by decide), rf_un (by decide)]; exact rf_us) (by decide) rfl rfl (fun b1 b2 k5 => ?_)
  refine rf_cpy 14 13 rf_zp k5 (by rw [rf_un (by decide)]; exact rf_us) (by decide) rfl rfl (fun b1 b2 k6 => nm_e ?_)
  obtain ⟨_, ⟨_, d13'⟩, _⟩ := k6 13 rf_zp rf_us
  refine pk_le 80 1 (fun z => absurd z (by omega)) (fun _ => br_t (by rw [d13']; decide) ?_)
  refine rf_l87 (v := v) (w := w) (g := w) (s1 := s) (s2 := rf_one) (r1 := s) (r2 := rf_one) (u := 1) k6 (by rw [rf_un (by omega), rf_un (by omega), rf_un (by omega), rf_un (by omega), rf_un (by omega), rf_un (by omega)]; exact hp) (by rw [rf_un (by omega), rf_un (by omega), rf_un (by omega), rf_un (by omega), rf_un (by omega), rf_un (by omega)]; exact hq) (by rw [rf_un (by decide)]; exact rf_us) hpq hp' hq' w0 gs rf_gd1 hs (show 1 + w.2 ≤ 41 by omega) hr ?_ (by decide) (by decide) (fun k _ => rf_m1 (gs.2.1 k)) (fun k _ => rf_m1 (rf_gd1.2.1 k)) gs rf_gd1 (fun b1 b2 k7 => H b1 b2 ?_)
  · intro k hk
    show rf_cv rf_one.1 w.1 k 1 % 101 = w.1 k
    rw [rf_cvk1]
    exact Nat.mod_eq_of_lt (gw.2.1 k)
  · rw [rf_erup (by decide), rf_erup (by decide), rf_erup (by decide), rf_erup (by decide), rf_erup (by decide), rf_erup (by decide)] at k7
    exact k7
/-- the numerator is shorter and divides the denominator -/
theorem rf_low2 {R : Nat → Option rf_P} (p q : Nat) (v w s r : rf_P) (u : Nat) (hp : R p = some v) (hq : R q = some w) (hpq : p ≠ q) (hp' : ¬ (12 ≤ p ∧ p < 16)) (hq' : ¬ (12 ≤ q ∧ q < 16)) (v0 : 0 < v.2) (hlt : v.2 < w.2) (gs : rf_gd s) (hs : s.2 + v.2 ≤ 41) (hr : ∀ k, k < 40 → rf_cv s.1 v.1 k s.2 % 101 = w.1 k) (s0 : 0 < s.2) (hu : u = rf_inv (s.1 (s.2 - 1))) (e2 : ∀ k, k < 40 → s.1 k * u % 101 = r.1 k) (gr : rf_gd r) : rf_Low p q R (rf_up (rf_up (rf_er R) p (rf_kon u)) q r) := by
  intro post c a1 a2 a3 hR H
  obtain ⟨hp4, ⟨h1, h2⟩, gv⟩ := hR p v hp
  have hq4 := (hR q w hq).1
  have gvl := gv.1
  have hu4 : u < 101 := by rw [hu]; exact rf_invlt _
  refine ⟨pk_in p 24 hp4, br_t ?_ ?_⟩
  · rw [nI_clamp (show p < 2 ^ 31 by omega), h2, rf_d0 (by omega)]
    exact v0
  refine rf_cpy p 12 v hR hp (by decide) rfl rfl (fun b1 b2 k1 => ?_)
  refine rf_cpy q 13 w k1 (by rw [rf_un (by omega)]; exact hq) (by decide) rfl rfl (fun b1 b2 k2 => ⟨3, ?_⟩)
  obtain ⟨_, ⟨_, d13⟩, gw⟩ := k2 13 w rf_us
  have gwl := gw.1
  refine pk_le 80 0 (fun z => absurd z (by omega)) (fun _ => br_f (by rw [d13, rf_dz (by omega)]; omega) ?_)
  refine rf_div0 12 13 v w k2 (by rw [rf_un (by decide)]; exact rf_us) rf_us hlt rfl rfl ?_
  refine rf_cpy 12 14 v k2 (by rw [rf_un (by decide)]; exact rf_us) (by decide) rfl rfl (fun b1 b2 k4 => ?_)
  refine rf_cpy 13 12 w k4 (by rw [rf_un (by decide)]; exact rf_us) (by decide) rfl rfl (fun b1 b2 k5 => ?_)
  refine rf_cpy 14 13 v k5 (by rw [rf_un (by decide)]; exact rf_us) (by decide) rfl rfl (fun b1 b2 k6 => nm_e ?_)
  obtain ⟨_, ⟨_, d13'⟩, _⟩ := k6 13 v rf_us
  refine pk_le 80 1 (fun z => absurd z (by omega)) (fun _ => br_f (by rw [d13', rf_dz (by omega)]; omega) ?_)
  refine rf_divN 12 13 w v s k6 (by rw [rf_un (by decide)]; exact rf_us) rf_us (by decide) v0 gs hs hr rfl rfl (fun b1 b2 k7 => ?_)
  refine rf_cpy 12 14 rf_zp k7 rf_us (by decide) rfl rfl (fun b1 b2 k8 => ?_)
  refine rf_cpy 13 12 v k8 (by rw [rf_un (by decide), rf_un (by decide)]; exact rf_us) (by decide) rfl rfl (fun b1 b2 k9 => ?_)
  refine rf_cpy 14 13 rf_zp k9 (by rw [rf_un (by decide)]; exact rf_us) (by decide) rfl rfl (fun b1 b2 j6 => nm_e ?_)
  obtain ⟨_, ⟨_, d13''⟩, _⟩ := j6 13 rf_zp rf_us
  refine pk_le 80 2 (fun z => absurd z (by omega)) (fun _ => br_t (by rw [d13'']; decide) ?_)
  refine rf_l87 (v := v) (w := w) (g := v) (s1 := rf_one) (s2 := s) (r1 := rf_kon u) (r2 := r) (u := u) j6 (by rw [rf_un (by omega), rf_un (by omega), rf_un (by omega), rf_un (by omega), rf_un (by omega), rf_un (by omega), rf_un (by omega), rf_un (by omega), rf_un (by omega)]; exact hp) (by rw [rf_un (by omega), rf_un (by omega), rf_un (by omega), rf_un (by omega), rf_un (by omega), rf_un (by omega), rf_un (by omega), rf_un (by omega), rf_un (by omega)]; exact hq) (by rw [rf_un (by decide)]; exact rf_us) hpq hp' hq' v0 rf_gd1 gs (show 1 + v.2 ≤ 41 by omega) hs ?_ hr s0 hu ?_ e2 (rf_gdk hu4) gr (fun b1 b2 k7 => H b1 b2 ?_)
  · intro k hk
    show rf_cv rf_one.1 v.1 k 1 % 101 = v.1 k
    rw [rf_cvk1]
    exact Nat.mod_eq_of_lt (gv.2.1 k)
  · intro k hk
    show (if k = 0 then 1 else 0) * u % 101 = if k = 0 then u else 0
    split <;> omega
  · rw [rf_erup (by decide), rf_erup (by decide), rf_erup (by decide), rf_erup (by decide), rf_erup (by decide), rf_erup (by decide), rf_erup (by decide), rf_erup (by decide), rf_erup (by decide)] at k7
    exact k7
/-- the denominator is 1 -/
theorem rf_low11 {R : Nat → Option rf_P} (p q : Nat) (v : rf_P) (gv : rf_gd v) (hp : R p = some v) (hq : R q = some rf_one) (hpq : p ≠ q) (hp' : ¬ (12 ≤ p ∧ p < 16)) (hq' : ¬ (12 ≤ q ∧ q < 16)) (v0 : 0 < v.2) : rf_Low p q R (rf_up (rf_up (rf_er R) p v) q rf_one) := by
  refine rf_low1 p q v rf_one v hp hq hpq hp' hq' v0 (by decide) gv (by have := gv.1; show v.2 + 1 ≤ 41; omega) (fun k hk => ?_)
  rw [rf_cv1]
  by_cases z : k < v.2
  · rw [if_pos z]
    exact Nat.mod_eq_of_lt (gv.2.1 k)
  · rw [if_neg z, gv.2.2.1 k (by omega)]
end
section
/-! powers of x + c -/
def rf_bt : List (List Nat) := [[1], [1, 1], [1, 2, 1], [1, 3, 3, 1], [1, 4, 6, 4, 1], [1, 5, 10, 10, 5, 1], [1, 6, 15, 20, 15, 6, 1]]
def rf_bn (e k : Nat) : Nat := (rf_bt.getD e []).getD k 0
def rf_pc (c e k : Nat) : Nat := rf_bn e k * c ^ (e - k) % 101
def rf_pw (c e : Nat) : rf_P := (rf_pc c e, e + 1)
def rf_mp (u c e : Nat) : rf_P := (fun k => u * rf_pc c e k % 101, e + 1)
theorem rf_btl : ∀ e, e < 7 → (rf_bt.getD e []).length = e + 1 := by decide
theorem rf_bn0 {e k : Nat} (he : e < 7) (h : e < k) : rf_bn e k = 0 := by
  unfold rf_bn
  rw [List.getD_eq_getElem?_getD, List.getElem?_eq_none (by rw [rf_btl e he]; omega)]
  rfl
theorem rf_bnl : ∀ e, e < 7 → rf_bn e e = 1 := by decide
theorem rf_pc0 {c e k : Nat} (he : e < 7) (h : e < k) : rf_pc c e k = 0 := by
  unfold rf_pc
  rw [rf_bn0 he h, Nat.zero_mul]
theorem rf_pcl {c e : Nat} (he : e < 7) : rf_pc c e e = 1 := by
  unfold rf_pc
  rw [rf_bnl e he, Nat.sub_self]
  rfl
theorem rf_pclt (c e k : Nat) : rf_pc c e k < 101 := Nat.mod_lt _ (by decide)
theorem rf_gdp {c e : Nat} (he : e < 7) : rf_gd (rf_pw c e) := by
  refine ⟨show e + 1 ≤ 40 by omega, rf_pclt c e, fun i hi => rf_pc0 he hi, fun _ => ?_⟩
  show rf_pc c e (e + 1 - 1) ≠ 0
  rw [Nat.add_sub_cancel, rf_pcl he]
  decide
theorem rf_gdm {u c e : Nat} (he : e < 7) (hu : u < 101) (h0 : u ≠ 0) : rf_gd (rf_mp u c e) := by
  refine ⟨show e + 1 ≤ 40 by omega, fun i => Nat.mod_lt _ (by decide), fun i hi => ?_, fun _ => ?_⟩
  · show u * rf_pc c e i % 101 = 0
    rw [rf_pc0 he hi, Nat.mul_zero]
  · show u * rf_pc c e (e + 1 - 1) % 101 ≠ 0
    rw [Nat.add_sub_cancel, rf_pcl he]
    omega
theorem rf_pw0 (c : Nat) : rf_pw c 0 = rf_one := by
  refine Prod.ext (funext fun k => ?_) rfl
  show rf_pc c 0 k = if k = 0 then 1 else 0
  by_cases z : k = 0
  · rw [z, if_pos rfl]
    exact rf_pcl (by decide)
  · rw [if_neg z]
    exact rf_pc0 (by decide) (by omega)
theorem rf_T1 : ∀ c, c < 101 → ∀ a, a < 7 → ∀ b, b < 7 - a → ∀ k, k < 7 → rf_cv (rf_pc c a) (rf_pc c b) k (a + 1) % 101 = rf_pc c (a + b) k := by decide +kernel
theorem rf_pp {c a b : Nat} (hc : c < 101) (hab : a + b < 7) : ∀ k, k < 40 → rf_cv (rf_pw c a).1 (rf_pw c b).1 k (rf_pw c a).2 % 101 = (rf_pw c (a + b)).1 k := by
  intro k hk
  show rf_cv (rf_pc c a) (rf_pc c b) k (a + 1) % 101 = rf_pc c (a + b) k
  by_cases z : k < 7
  · exact rf_T1 c hc a (by omega) b (by omega) k z
  · rw [rf_cv0 (m := b + 1) (fun i hi => rf_pc0 (by omega) hi) k (a + 1) (by omega), rf_pc0 hab (by omega)]
theorem rf_T2 : ∀ c, c < 101 → ∀ e, e < 6 → ∀ k, k < 7 → (k + 1) * rf_pc c (e + 1) (k + 1) % 101 = (e + 1) * rf_pc c e k % 101 := by decide +kernel
theorem rf_dd {c e : Nat} (hc : c < 101) (he : e + 1 < 7) : ∀ k, k < 40 → (k + 1) * (rf_pw c (e + 1)).1 (k + 1) % 101 = (rf_mp (e + 1) c e).1 k := by
  intro k hk
  show (k + 1) * rf_pc c (e + 1) (k + 1) % 101 = (e + 1) * rf_pc c e k % 101
  by_cases z : k < 7
  · exact rf_T2 c hc e (by omega) k z
  · rw [rf_pc0 he (by omega), rf_pc0 (by omega) (by omega), Nat.mul_zero, Nat.mul_zero]
theorem rf_T4 : ∀ c, c < 101 → ∀ d, d < 3 → ∀ k, k < 7 → rf_cv (rf_mp (rf_inv (100 - d)) c (d + 2)).1 (rf_mp (100 - d) c d).1 k (d + 3) % 101 = rf_pc c (2 * (d + 1)) k := by decide +kernel
theorem rf_qq {c d : Nat} (hc : c < 101) (hd : d < 3) : ∀ k, k < 40 → rf_cv (rf_mp (rf_inv (100 - d)) c (d + 2)).1 (rf_mp (100 - d) c d).1 k (rf_mp (rf_inv (100 - d)) c (d + 2)).2 % 101 = (rf_pw c (2 * (d + 1))).1 k := by
  intro k hk
  show rf_cv (rf_mp (rf_inv (100 - d)) c (d + 2)).1 (rf_mp (100 - d) c d).1 k (d + 3) % 101 = rf_pc c (2 * (d + 1)) k
  by_cases z : k < 7
  · exact rf_T4 c hc d hd k z
  · rw [rf_cv0 (m := d + 1) (rf_gdm (by omega) (by omega) (by omega)).2.2.1 k (d + 3) (by omega), rf_pc0 (by omega) (by omega)]
theorem rf_T5 : ∀ d, d < 3 → rf_inv (100 - d) < 101 ∧ rf_inv (100 - d) ≠ 0 ∧ rf_inv (rf_inv (100 - d) * 1 % 101) = 100 - d := by decide
theorem rf_T5m {c d : Nat} (hd : d < 3) : ∀ k, (rf_mp (rf_inv (100 - d)) c (d + 2)).1 k * (100 - d) % 101 = (rf_pw c (d + 2)).1 k := by
  intro k
  show rf_inv (100 - d) * rf_pc c (d + 2) k % 101 * (100 - d) % 101 = rf_pc c (d + 2) k
  have h := rf_invm (100 - d) (by omega) (by omega)
  rw [Nat.mod_mul_mod, Nat.mul_comm, ← Nat.mul_assoc, ← Nat.mod_mul_mod, h, Nat.one_mul]
  exact Nat.mod_eq_of_lt (rf_pclt _ _ _)
/-! values -/
def rf_hn (f : Nat → Nat) (a : Nat) : Nat → Nat → Nat
  | 0, v => v
  | i + 1, v => rf_hn f a i ((v * a + f i) % 101)
theorem rf_hnlt (f : Nat → Nat) (a : Nat) : ∀ i v, v < 101 → rf_hn f a i v < 101
  | 0, v, h => h
  | i + 1, v, _ => rf_hnlt f a i _ (Nat.mod_lt _ (by decide))
theorem rf_hnm (f : Nat → Nat) (a u : Nat) : ∀ i v, rf_hn (fun k => u * f k % 101) a i (u * v % 101) = u * rf_hn f a i v % 101
  | 0, v => rfl
  | i + 1, v => by
    show rf_hn (fun k => u * f k % 101) a i ((u * v % 101 * a + u * f i % 101) % 101) = u * rf_hn f a i ((v * a + f i) % 101) % 101
    rw [← rf_hnm f a u i ((v * a + f i) % 101)]
    refine congrArg _ ?_
    rw [Nat.mul_mod_mod, Nat.add_mod_mod, ← Nat.mod_add_mod, Nat.mod_mul_mod, Nat.mod_add_mod, Nat.mul_add, Nat.mul_assoc]
theorem rf_T3 : ∀ c, c < 101 → ∀ a, a < 101 → ∀ e, e < 7 → rf_hn (rf_pc c e) a (e + 1) 0 = ((a + c) % 101) ^ e % 101 := by decide +kernel
end
section
/-! fractions and the stack -/
def rf_ew (R : Nat → Option rf_P) : Nat → Option rf_P := fun k => if 16 ≤ k ∧ k < 20 then none else R k
theorem rf_ewn {R : Nat → Option rf_P} {k : Nat} (h : ¬ (16 ≤ k ∧ k < 20)) : rf_ew R k = R k := if_neg h
theorem rf_ewy {R : Nat → Option rf_P} {k : Nat} {v : rf_P} (h : rf_ew R k = some v) : ¬ (16 ≤ k ∧ k < 20) := fun z => by
  unfold rf_ew at h
  rw [if_pos z] at h
  exact absurd h (by simp)
def rf_cut (R : Nat → Option rf_P) (m : Nat) : Nat → Option rf_P := fun k => if k < m then R k else none
theorem rf_cutn {R : Nat → Option rf_P} {m k : Nat} (h : k < m) : rf_cut R m k = R k := if_pos h
theorem rf_cuty {R : Nat → Option rf_P} {m k : Nat} {v : rf_P} (h : rf_cut R m k = some v) : k < m := by
  by_cases z : k < m
  · exact z
  · unfold rf_cut at h
    rw [if_neg z] at h
    exact absurd h (by simp)
theorem rf_t2 (f : Nat) : 2 * nI f = nI (2 * f) := pk_mul 2 f
theorem rf_t3 (f : Nat) : 2 * nI f + 1 = nI (2 * f + 1) := by rw [rf_t2, nI_1]
theorem rf_mf {post : St2 → Prop} {c : Int32} {a1 a2 a3 : Nat → Int32} {R : Nat → Option rf_P} (f ab be : Nat) (v w v' w' r1 r2 : rf_P) (hf : f < 6) (hR : rf_ok R a1 a2) (hv : R (2 * f) = some v) (hw : R (2 * f + 1) = some w) (hv' : R ab = some v') (hw' : R be = some w') (hab : ¬ (16 ≤ ab ∧ ab < 20)) (hbe : ¬ (16 ≤ be ∧ be < 20)) (s1 : v.2 + v'.2 ≤ 41) (s2 : w.2 + w'.2 ≤ 41) (m1 : ∀ k, k < 40 → rf_cv v.1 v'.1 k v.2 % 101 = r1.1 k) (m2 : ∀ k, k < 40 → rf_cv w.1 w'.1 k w.2 % 101 = r2.1 k) (g1 : rf_gd r1) (g2 : rf_gd r2) {x y z : Int32} (hx : x = nI f) (hy : y = nI ab) (hz : z = nI be)
    (H : ∀ b1 b2, rf_ok (rf_up (rf_up (rf_ew R) (2 * f) r1) (2 * f + 1) r2) b1 b2 → post (c, b1, b2, a3)) : wpX_multiplyFractions post (c, a1, a2, a3) x y z := by
  subst hx hy hz
  unfold wpX_multiplyFractions
  dsimp only
  refine rf_mul (2 * f) ab 16 v v' r1 hR hv hv' (by decide) (by omega) (by omega) s1 m1 g1 (rf_t2 f) rfl rfl (fun b1 b2 k1 => ?_)
  refine rf_mul (2 * f + 1) be 17 w w' r2 k1 (by rw [rf_un (by omega)]; exact hw) (by rw [rf_un (by omega)]; exact hw') (by decide) (by omega) (by omega) s2 m2 g2 (rf_t3 f) rfl rfl (fun b1 b2 k2 => ?_)
  refine rf_cpy 16 (2 * f) r1 k2 (by rw [rf_un (by decide)]; exact rf_us) (by omega) rfl (rf_t2 f) (fun b1 b2 k3 => ?_)
  refine rf_cpy 17 (2 * f + 1) r2 k3 (by rw [rf_un (by omega)]; exact rf_us) (by omega) rfl (rf_t3 f) (fun b1 b2 k4 => H _ _ (rf_mono k4 (fun k x e => ?_)))
  by_cases z1 : k = 2 * f + 1
  · subst z1
    rw [rf_us] at e ⊢
    exact e
  · by_cases z2 : k = 2 * f
    · subst z2
      rw [rf_un z1, rf_us] at e ⊢
      exact e
    · rw [rf_un z1, rf_un z2] at e ⊢
      have z := rf_ewy e
      rw [rf_ewn z] at e
      rw [rf_un (by omega), rf_un (by omega)]
      exact e
theorem rf_af {post : St2 → Prop} {c : Int32} {a1 a2 a3 : Nat → Int32} {R : Nat → Option rf_P} (f g : Nat) (sg : Int32) (v w v' w' m1 m2 m3 r : rf_P) (hf : f < 6) (hg : g < 6) (hR : rf_ok R a1 a2) (hv : R (2 * f) = some v) (hw : R (2 * f + 1) = some w) (hv' : R (2 * g) = some v') (hw' : R (2 * g + 1) = some w') (s1 : v.2 + w'.2 ≤ 41) (s2 : v'.2 + w.2 ≤ 41) (s3 : w.2 + w'.2 ≤ 41) (q1 : ∀ k, k < 40 → rf_cv v.1 w'.1 k v.2 % 101 = m1.1 k) (q2 : ∀ k, k < 40 → rf_cv v'.1 w.1 k v'.2 % 101 = m2.1 k) (q3 : ∀ k, k < 40 → rf_cv w.1 w'.1 k w.2 % 101 = m3.1 k) (g1 : rf_gd m1) (g2 : rf_gd m2) (g3 : rf_gd m3) (qr : ∀ k, k < 40 → rf_red (nI (m1.1 k) + sg * nI (m2.1 k)) (r.1 k)) (gr : rf_gd r) {x y : Int32} (hx : x = nI f) (hy : y = nI g)
    (H : ∀ b1 b2, rf_ok (rf_up (rf_up (rf_ew R) (2 * f) r) (2 * f + 1) m3) b1 b2 → post (c, b1, b2, a3)) : wpX_addFractions post (c, a1, a2, a3) x y sg := by
  subst hx hy
  unfold wpX_addFractions
  dsimp only
  refine rf_mul (2 * f) (2 * g + 1) 16 v w' m1 hR hv hw' (by decide) (by omega) (by omega) s1 q1 g1 (rf_t2 f) (rf_t3 g) rfl (fun b1 b2 k1 => ?_)
  refine rf_mul (2 * g) (2 * f + 1) 17 v' w m2 k1 (by rw [rf_un (by omega)]; exact hv') (by rw [rf_un (by omega)]; exact hw) (by decide) (by omega) (by omega) s2 q2 g2 (rf_t2 g) (rf_t3 f) rfl (fun b1 b2 k2 => ?_)
  refine rf_mul (2 * f + 1) (2 * g + 1) 18 w w' m3 k2 (by rw [rf_un (by omega), rf_un (by omega)]; exact hw) (by rw [rf_un (by omega), rf_un (by omega)]; exact hw') (by decide) (by omega) (by omega) s3 q3 g3 (rf_t3 f) (rf_t3 g) rfl (fun b1 b2 k3 => ?_)
  refine rf_add 16 17 (2 * f) m1 m2 r sg k3 (by rw [rf_un (by decide), rf_un (by decide)]; exact rf_us) (by rw [rf_un (by decide)]; exact rf_us) (by omega) qr gr rfl rfl (rf_t2 f) (fun b1 b2 k4 => ?_)
  refine rf_cpy 18 (2 * f + 1) m3 k4 (by rw [rf_un (by omega)]; exact rf_us) (by omega) rfl (rf_t3 f) (fun b1 b2 k5 => H _ _ (rf_mono k5 (fun k x e => ?_)))
  by_cases z1 : k = 2 * f + 1
  · subst z1
    rw [rf_us] at e ⊢
    exact e
  · by_cases z2 : k = 2 * f
    · subst z2
      rw [rf_un z1, rf_us] at e ⊢
      exact e
    · rw [rf_un z1, rf_un z2] at e ⊢
      have z := rf_ewy e
      rw [rf_ewn z] at e
      rw [rf_un (by omega), rf_un (by omega), rf_un (by omega)]
      exact e
/-! apply -/
theorem rf_133 {post : Int32 → St2 → Prop} {a1 a2 a3 : Nat → Int32} {R R' : Nat → Option rf_P} {f h1 h2 : Nat} (hf : f < 5) (hlow : rf_Low (2 * f) (2 * f + 1) R R') (hR : rf_ok R a1 a2) (e1 : a3 f = nI h1) (e2 : a3 (f + 1) = nI h2) (H : ∀ b1 b2, rf_ok R' b1 b2 → post (nI (f + 1)) (nI (f + 1), b1, b2, upd a3 f (nI (h1 + h2)))) : wX_apply_133 post (nI f) (nI (f + 1)) (nI (f + 2)) a1 a2 a3 := by
  unfold wX_apply_133
  rw [rf_t3 f, rf_t2 f]
  exact hlow _ _ _ _ _ hR (fun b1 b2 hb => ⟨pk_in f 6 (by omega), pk_in (f + 1) 6 (by omega), pk_in f 6 (by omega), nm_r (by rw [nI_clamp (by omega), nI_clamp (by omega), e1, e2, nI_add]) (nm_r (nI_pred (f + 1)) (H b1 b2 hb))⟩)
theorem rf_ap {post : Int32 → St2 → Prop} {a1 a2 a3 : Nat → Int32} {f o h1 h2 : Nat} (hf : f < 5) (ho : o ≤ 3) (e1 : a3 f = nI h1) (e2 : a3 (f + 1) = nI h2) (hh : h1 + h2 ≤ 12) (h3 : o = 3 → 0 ≤ a2 (2 * (f + 1))) (H : wX_apply_76 post (nI o) (nI f) (nI (f + 1)) (nI (f + 2)) a1 a2 a3) : wpX_apply post (nI (f + 2), a1, a2, a3) (nI o) := by
  refine br_f (nI_pos (by omega)) (pk_le o 3 (fun _ => pk_le 2 (f + 2) (fun _ => nm_r (e' := nI f) ?_ (nm_r (nI_pred (f + 1)) ⟨pk_in f 6 (by omega), pk_in (f + 1) 6 (by omega), pk_le (h1 + h2) 12 (fun _ => pk_eq o 3 (fun z => ⟨pk_in (2 * (f + 1)) 24 (by omega) (rf_t2 (f + 1)), br_t ?_ H⟩) (fun _ => H)) (fun z => absurd z (by omega)) ?_⟩)) (fun z => absurd z (by omega))) (fun z => absurd z (by omega)))
  · exact (pk_sub (a := f + 2) (b := 2) (by omega)).trans (congrArg nI (by omega))
  · rw [rf_t2, nI_clamp (by omega)]
    exact h3 z
  · rw [nI_clamp (by omega), nI_clamp (by omega), e1, e2, nI_add]
/-- heights too great -/
theorem rf_apF {post : Int32 → St2 → Prop} {a1 a2 a3 : Nat → Int32} {f o h1 h2 : Nat} (hf : f < 5) (ho : o ≤ 3) (e1 : a3 f = nI h1) (e2 : a3 (f + 1) = nI h2) (hb : h1 + h2 < 1000) (hh : ¬ h1 + h2 ≤ 12) (H : post (-2) (nI (f + 2), a1, a2, a3)) : wpX_apply post (nI (f + 2), a1, a2, a3) (nI o) := by
  refine br_f (nI_pos (by omega)) (pk_le o 3 (fun _ => pk_le 2 (f + 2) (fun _ => nm_r (e' := nI f) ?_ (nm_r (nI_pred (f + 1)) ⟨pk_in f 6 (by omega), pk_in (f + 1) 6 (by omega), pk_le (h1 + h2) 12 (fun z => absurd z hh) (fun _ => H) ?_⟩)) (fun z => absurd z (by omega))) (fun z => absurd z (by omega)))
  · exact (pk_sub (a := f + 2) (b := 2) (by omega)).trans (congrArg nI (by omega))
  · rw [nI_clamp (by omega), nI_clamp (by omega), e1, e2, nI_add]
theorem rf_ap2 {post : Int32 → St2 → Prop} {a1 a2 a3 : Nat → Int32} {R R' : Nat → Option rf_P} (f h1 h2 : Nat) (v w v' w' r1 r2 : rf_P) (hf : f < 5) (hR : rf_ok R a1 a2) (hv : R (2 * f) = some v) (hw : R (2 * f + 1) = some w) (hv' : R (2 * (f + 1)) = some v') (hw' : R (2 * (f + 1) + 1) = some w') (s1 : v.2 + v'.2 ≤ 41) (s2 : w.2 + w'.2 ≤ 41) (m1 : ∀ k, k < 40 → rf_cv v.1 v'.1 k v.2 % 101 = r1.1 k) (m2 : ∀ k, k < 40 → rf_cv w.1 w'.1 k w.2 % 101 = r2.1 k) (g1 : rf_gd r1) (g2 : rf_gd r2) (e1 : a3 f = nI h1) (e2 : a3 (f + 1) = nI h2) (hh : h1 + h2 ≤ 12) (hlow : rf_Low (2 * f) (2 * f + 1) (rf_up (rf_up (rf_ew R) (2 * f) r1) (2 * f + 1) r2) R') (H : ∀ b1 b2, rf_ok R' b1 b2 → post (nI (f + 1)) (nI (f + 1), b1, b2, upd a3 f (nI (h1 + h2)))) : wpX_apply post (nI (f + 2), a1, a2, a3) 2 := by
  refine rf_ap (o := 2) hf (by decide) e1 e2 hh (fun z => absurd z (by decide)) ?_
  unfold wX_apply_76
  refine br_t (by decide) (br_t rfl ?_)
  exact rf_mf f (2 * (f + 1)) (2 * (f + 1) + 1) v w v' w' r1 r2 (by omega) hR hv hw hv' hw' (by omega) (by omega) s1 s2 m1 m2 g1 g2 rfl (rf_t2 _) (rf_t3 _) (fun b1 b2 hb => rf_133 hf hlow hb e1 e2 H)
theorem rf_ap3 {post : Int32 → St2 → Prop} {a1 a2 a3 : Nat → Int32} {R R' : Nat → Option rf_P} (f h1 h2 : Nat) (v w v' w' r1 r2 : rf_P) (hf : f < 5) (hR : rf_ok R a1 a2) (hv : R (2 * f) = some v) (hw : R (2 * f + 1) = some w) (hv' : R (2 * (f + 1)) = some v') (hw' : R (2 * (f + 1) + 1) = some w') (v0 : 0 < v'.2) (s1 : v.2 + w'.2 ≤ 41) (s2 : w.2 + v'.2 ≤ 41) (m1 : ∀ k, k < 40 → rf_cv v.1 w'.1 k v.2 % 101 = r1.1 k) (m2 : ∀ k, k < 40 → rf_cv w.1 v'.1 k w.2 % 101 = r2.1 k) (g1 : rf_gd r1) (g2 : rf_gd r2) (e1 : a3 f = nI h1) (e2 : a3 (f + 1) = nI h2) (hh : h1 + h2 ≤ 12) (hlow : rf_Low (2 * f) (2 * f + 1) (rf_up (rf_up (rf_ew R) (2 * f) r1) (2 * f + 1) r2) R') (H : ∀ b1 b2, rf_ok R' b1 b2 → post (nI (f + 1)) (nI (f + 1), b1, b2, upd a3 f (nI (h1 + h2)))) : wpX_apply post (nI (f + 2), a1, a2, a3) 3 := by
  obtain ⟨_, ⟨_, d⟩, gv⟩ := hR _ _ hv'
  refine rf_ap (o := 3) hf (by decide) e1 e2 hh (fun _ => by rw [d, rf_d0 (by have := gv.1; omega)]; exact v0) ?_
  unfold wX_apply_76
  refine br_t (by decide) (br_f (by decide) ?_)
  exact rf_mf f (2 * (f + 1) + 1) (2 * (f + 1)) v w w' v' r1 r2 (by omega) hR hv hw hw' hv' (by omega) (by omega) s1 s2 m1 m2 g1 g2 rfl (rf_t3 _) (rf_t2 _) (fun b1 b2 hb => rf_133 hf hlow hb e1 e2 H)
theorem rf_ap0 {post : Int32 → St2 → Prop} {a1 a2 a3 : Nat → Int32} {R R' : Nat → Option rf_P} (f h1 h2 : Nat) (v w v' w' m1 m2 m3 r : rf_P) (hf : f < 5) (hR : rf_ok R a1 a2) (hv : R (2 * f) = some v) (hw : R (2 * f + 1) = some w) (hv' : R (2 * (f + 1)) = some v') (hw' : R (2 * (f + 1) + 1) = some w') (s1 : v.2 + w'.2 ≤ 41) (s2 : v'.2 + w.2 ≤ 41) (s3 : w.2 + w'.2 ≤ 41) (q1 : ∀ k, k < 40 → rf_cv v.1 w'.1 k v.2 % 101 = m1.1 k) (q2 : ∀ k, k < 40 → rf_cv v'.1 w.1 k v'.2 % 101 = m2.1 k) (q3 : ∀ k, k < 40 → rf_cv w.1 w'.1 k w.2 % 101 = m3.1 k) (g1 : rf_gd m1) (g2 : rf_gd m2) (g3 : rf_gd m3) (qr : ∀ k, k < 40 → rf_red (nI (m1.1 k) + 1 * nI (m2.1 k)) (r.1 k)) (gr : rf_gd r) (e1 : a3 f = nI h1) (e2 : a3 (f + 1) = nI h2) (hh : h1 + h2 ≤ 12) (hlow : rf_Low (2 * f) (2 * f + 1) (rf_up (rf_up (rf_ew R) (2 * f) r) (2 * f + 1) m3) R') (H : ∀ b1 b2, rf_ok R' b1 b2 → post (nI (f + 1)) (nI (f + 1), b1, b2, upd a3 f (nI (h1 + h2)))) : wpX_apply post (nI (f + 2), a1, a2, a3) 0 := by
  refine rf_ap (o := 0) hf (by decide) e1 e2 hh (fun z => absurd z (by decide)) ?_
  unfold wX_apply_76
  refine br_f (by decide) (br_t rfl ?_)
  unfold wX_apply_93
  exact rf_af f (f + 1) 1 v w v' w' m1 m2 m3 r (by omega) (by omega) hR hv hw hv' hw' s1 s2 s3 q1 q2 q3 g1 g2 g3 qr gr rfl rfl (fun b1 b2 hb => rf_133 hf hlow hb e1 e2 H)
theorem rf_ap1 {post : Int32 → St2 → Prop} {a1 a2 a3 : Nat → Int32} {R R' : Nat → Option rf_P} (f h1 h2 : Nat) (v w v' w' m1 m2 m3 r : rf_P) (hf : f < 5) (hR : rf_ok R a1 a2) (hv : R (2 * f) = some v) (hw : R (2 * f + 1) = some w) (hv' : R (2 * (f + 1)) = some v') (hw' : R (2 * (f + 1) + 1) = some w') (s1 : v.2 + w'.2 ≤ 41) (s2 : v'.2 + w.2 ≤ 41) (s3 : w.2 + w'.2 ≤ 41) (q1 : ∀ k, k < 40 → rf_cv v.1 w'.1 k v.2 % 101 = m1.1 k) (q2 : ∀ k, k < 40 → rf_cv v'.1 w.1 k v'.2 % 101 = m2.1 k) (q3 : ∀ k, k < 40 → rf_cv w.1 w'.1 k w.2 % 101 = m3.1 k) (g1 : rf_gd m1) (g2 : rf_gd m2) (g3 : rf_gd m3) (qr : ∀ k, k < 40 → rf_red (nI (m1.1 k) + (-1) * nI (m2.1 k)) (r.1 k)) (gr : rf_gd r) (e1 : a3 f = nI h1) (e2 : a3 (f + 1) = nI h2) (hh : h1 + h2 ≤ 12) (hlow : rf_Low (2 * f) (2 * f + 1) (rf_up (rf_up (rf_ew R) (2 * f) r) (2 * f + 1) m3) R') (H : ∀ b1 b2, rf_ok R' b1 b2 → post (nI (f + 1)) (nI (f + 1), b1, b2, upd a3 f (nI (h1 + h2)))) : wpX_apply post (nI (f + 2), a1, a2, a3) 1 := by
  refine rf_ap (o := 1) hf (by decide) e1 e2 hh (fun z => absurd z (by decide)) ?_
  unfold wX_apply_76
  refine br_f (by decide) (br_f (by decide) ?_)
  unfold wX_apply_93
  exact rf_af f (f + 1) (-1) v w v' w' m1 m2 m3 r (by omega) (by omega) hR hv hw hv' hw' s1 s2 s3 q1 q2 q3 g1 g2 g3 qr gr rfl rfl (fun b1 b2 hb => rf_133 hf hlow hb e1 e2 H)
/-! variable, constant -/
theorem rf_psh {post : Int32 → St2 → Prop} {a1 a2 a3 : Nat → Int32} {f : Nat} {x : Int32} (hf : f < 6) (H : post (nI (f + 1)) (nI (f + 1), a1, a2, upd a3 f x)) : wpX_push post (nI f, a1, a2, a3) x :=
  ⟨pk_in f 6 hf, nm_r (by rw [nI_clamp (by omega)]) (nm_r (nI_1 f) H)⟩
theorem rf_var {post : Int32 → St2 → Prop} {a1 a2 a3 : Nat → Int32} {R : Nat → Option rf_P} (f : Nat) (hf : f < 6) (hR : rf_ok R a1 a2) (H : ∀ b1 b2, rf_ok (rf_up (rf_up R (2 * f) rf_X) (2 * f + 1) rf_one) b1 b2 → post (nI (f + 1)) (nI (f + 1), b1, b2, upd a3 f 1)) : wpX_variable post (nI f, a1, a2, a3) := by
  refine pk_eq f 6 (fun z => absurd z (by omega)) (fun _ => rf_clr0 (p := 2 * f) (by omega) ?_ (rf_t2 f))
  have e9 : 2 * nI f * 40 + 1 = nI (2 * f * 40 + 1) := by
    rw [rf_t2]
    exact rf_ix (2 * f) 1
  have k1 : rf_ok (rf_up R (2 * f) rf_X) (rf_fl a1 (2 * f) 40 (fun k => if k = 1 then 1 else 0)) (upd a2 (2 * f) 1) := by
    refine rf_set (v := rf_X) (rf_nomono hR _) (by omega) rfl (fun i hi => ?_) rfl rf_gdX
    show (if i = 1 then (1 : Int32) else 0) = nI (if i = 1 then 1 else 0)
    split <;> rfl
  refine ⟨pk_in (2 * f * 40 + 1) 960 (by omega) e9, nm_r (e' := rf_fl a1 (2 * f) 40 (fun k => if k = 1 then 1 else 0)) (by rw [e9, nI_clamp (by omega), rf_flu (by decide)]) ⟨pk_in (2 * f) 24 (by omega) (rf_t2 f), nm_r (e' := upd a2 (2 * f) 1) (by rw [rf_t2, nI_clamp (by omega), rf_uu]) (rf_con (2 * f + 1) 1 k1 (by omega) (by decide) (rf_t3 f) rfl (fun b1 b2 k2 => rf_psh hf (H b1 b2 k2)))⟩⟩
theorem rf_cst {post : Int32 → St2 → Prop} {a1 a2 a3 : Nat → Int32} {R : Nat → Option rf_P} (f c : Nat) (hf : f < 6) (hc : c < 101) (hR : rf_ok R a1 a2) (H : ∀ b1 b2, rf_ok (rf_up (rf_up R (2 * f) (rf_kon c)) (2 * f + 1) rf_one) b1 b2 → post (nI (f + 1)) (nI (f + 1), b1, b2, upd a3 f 0)) : wpX_constant post (nI f, a1, a2, a3) (nI c) :=
  br_f (nI_pos (by omega)) (pk_lt c 101 (fun _ => pk_eq f 6 (fun z => absurd z (by omega)) (fun _ => rf_con (2 * f) c hR (by omega) hc (rf_t2 f) rfl (fun b1 b2 k1 => rf_con (2 * f + 1) 1 k1 (by omega) (by decide) (rf_t3 f) rfl (fun b1 b2 k2 => rf_psh hf (H b1 b2 k2))))) (fun z => absurd z (by omega)))
end
section
/-! power, linear -/
theorem rf_fo {v : rf_P} (gv : rf_gd v) : ∀ k, k < 40 → rf_cv v.1 rf_one.1 k v.2 % 101 = v.1 k := by
  intro k hk
  rw [rf_cv1]
  by_cases z : k < v.2
  · rw [if_pos z]
    exact Nat.mod_eq_of_lt (gv.2.1 k)
  · rw [if_neg z, gv.2.2.1 k (by omega)]
theorem rf_of {v : rf_P} (gv : rf_gd v) : ∀ k, k < 40 → rf_cv rf_one.1 v.1 k rf_one.2 % 101 = v.1 k := by
  intro k hk
  show rf_cv rf_one.1 v.1 k 1 % 101 = v.1 k
  rw [rf_cvk1]
  exact Nat.mod_eq_of_lt (gv.2.1 k)
theorem rf_cutc {R R' : Nat → Option rf_P} {m : Nat} (h : ∀ k, k < m → R k = R' k) : rf_cut R m = rf_cut R' m := by
  funext k
  by_cases z : k < m
  · rw [rf_cutn z, rf_cutn z, h k z]
  · unfold rf_cut
    rw [if_neg z, if_neg z]
def rf_Q (R : Nat → Option rf_P) (f c i : Nat) : Nat → Option rf_P := rf_up (rf_up (rf_up (rf_up (rf_cut R (2 * f)) 20 (rf_pw c 1)) 21 rf_one) (2 * f) (rf_pw c i)) (2 * f + 1) rf_one
theorem rf_pow {post : Int32 → St2 → Prop} {a1 a2 a3 : Nat → Int32} {R : Nat → Option rf_P} (f c n h : Nat) (hf : f < 6) (hc : c < 101) (hn : n ≤ 3) (hR : rf_ok R a1 a2) (hv : R (2 * f) = some (rf_pw c 1)) (hw : R (2 * f + 1) = some rf_one) (e1 : a3 f = nI h) (hh : n * h ≤ 12) (H : ∀ b1 b2, rf_ok (rf_up (rf_up (rf_cut R (2 * f)) (2 * f) (rf_pw c n)) (2 * f + 1) rf_one) b1 b2 → post (nI (f + 1)) (nI (f + 1), b1, b2, upd a3 f (nI (n * h)))) : wpX_power post (nI (f + 1), a1, a2, a3) (nI n) := by
  refine br_f (nI_pos (by omega)) (pk_le n 3 (fun _ => br_f (nI_ne0 (by omega) (by omega)) (nm_r (nI_pred f) ⟨pk_in f 6 hf, pk_le (n * h) 12 (fun _ => ?_) (fun z => absurd z (by omega)) (by rw [nI_clamp (by omega), e1, pk_mul])⟩)) (fun z => absurd z (by omega)))
  refine rf_cpy (2 * f) 20 (rf_pw c 1) hR hv (by decide) (rf_t2 f) rfl (fun b1 b2 k1 => ?_)
  refine rf_cpy (2 * f + 1) 21 rf_one k1 (by rw [rf_un (by omega)]; exact hw) (by decide) (rf_t3 f) rfl (fun b1 b2 k2 => ?_)
  refine rf_con (2 * f) 1 k2 (by omega) (by decide) (rf_t2 f) rfl (fun b1 b2 k3 => ?_)
  refine rf_con (2 * f + 1) 1 k3 (by omega) (by decide) (rf_t3 f) rfl (fun b1 b2 k4 => ?_)
  have k5 : rf_ok (rf_Q R f c 0) b1 b2 := by
    refine rf_mono k4 (fun k x e => ?_)
    unfold rf_Q at e
    by_cases z1 : k = 2 * f + 1
    · subst z1
      rw [rf_us] at e ⊢
      exact e
    · by_cases z2 : k = 2 * f
      · subst z2
        rw [rf_un z1, rf_us] at e ⊢
        rw [rf_pw0] at e
        exact e
      · rw [rf_un z1, rf_un z2] at e ⊢
        by_cases z3 : k = 21
        · subst z3
          rw [rf_us] at e ⊢
          exact e
        · by_cases z4 : k = 20
          · subst z4
            rw [rf_un z3, rf_us] at e ⊢
            exact e
          · rw [rf_un z3, rf_un z4] at e ⊢
            rw [rf_cutn (rf_cuty e)] at e
            exact e
  refine pk_loop (σ := (Nat → Int32) × (Nat → Int32)) (fun m i s => wX_power_84 post (nI n) (nI f) m (nI i) (nI (f + 1)) s.1 s.2 a3) (fun i s => rf_ok (rf_Q R f c i) s.1 s.2) n 0 (b1, b2) (by omega) k5 ?_ ?_
  · intro m s hs
    refine pk_le n n (fun _ => ?_) (fun z => absurd z (by omega))
    rw [rf_t3 f, rf_t2 f]
    refine rf_Lm (rf_low11 (2 * f) (2 * f + 1) (rf_pw c n) (rf_gdp (by omega)) (R := rf_Q R f c n) ?_ rf_us (by omega) (by omega) (by omega) (Nat.succ_pos n)) (R'' := rf_up (rf_up (rf_cut R (2 * f)) (2 * f) (rf_pw c n)) (2 * f + 1) rf_one) ?_ _ _ _ _ _ hs (fun b1 b2 hb => ⟨pk_in f 6 hf, pk_in f 6 hf, nm_r (by rw [nI_clamp (by omega), e1, pk_mul]) (H b1 b2 hb)⟩)
    · unfold rf_Q
      rw [rf_un (by omega)]
      exact rf_us
    · intro k x e
      by_cases z1 : k = 2 * f + 1
      · subst z1
        rw [rf_us] at e ⊢
        exact e
      · by_cases z2 : k = 2 * f
        · subst z2
          rw [rf_un z1, rf_us] at e ⊢
          exact e
        · rw [rf_un z1, rf_un z2] at e ⊢
          have z := rf_cuty e
          unfold rf_Q
          rw [rf_ern (by omega), rf_un z1, rf_un z2, rf_un (by omega), rf_un (by omega)]
          exact e
  · intro m i s hi hs hw
    refine pk_le n i (fun z => absurd z (by omega)) (fun _ => ?_)
    refine rf_mf f 20 21 (rf_pw c i) rf_one (rf_pw c 1) rf_one (rf_pw c (i + 1)) rf_one hf hs ?_ rf_us ?_ ?_ (by decide) (by decide) (show i + 1 + 2 ≤ 41 by omega) (by decide) (rf_pp hc (by omega)) (rf_fo rf_gd1) (rf_gdp (by omega)) rf_gd1 rfl rfl rfl (fun b1 b2 hb => nm_r (nI_1 i) (hw (b1, b2) (rf_mono hb ?_)))
    · unfold rf_Q
      rw [rf_un (by omega)]
      exact rf_us
    · unfold rf_Q
      rw [rf_un (by omega), rf_un (by omega), rf_un (by omega)]
      exact rf_us
    · unfold rf_Q
      rw [rf_un (by omega), rf_un (by omega)]
      exact rf_us
    · intro k x e
      unfold rf_Q at e
      by_cases z1 : k = 2 * f + 1
      · subst z1
        rw [rf_us] at e ⊢
        exact e
      · by_cases z2 : k = 2 * f
        · subst z2
          rw [rf_un z1, rf_us] at e ⊢
          exact e
        · have e' := e
          rw [rf_un z1, rf_un z2] at e ⊢
          have z : ¬ (16 ≤ k ∧ k < 20) := by
            intro z
            rw [rf_un (by omega), rf_un (by omega)] at e
            have := rf_cuty e
            omega
          unfold rf_Q
          rw [rf_ewn z, rf_un z1, rf_un z2]
          exact e
theorem rf_X1 {c : Nat} (hc : c < 101) (k : Nat) : (rf_X.1 k + (rf_kon c).1 k) % 101 = (rf_pw c 1).1 k := by
  show ((if k = 1 then 1 else 0) + (if k = 0 then c else 0)) % 101 = rf_pc c 1 k
  by_cases z0 : k = 0
  · subst z0
    show (0 + c) % 101 = 1 * c ^ 1 % 101
    rw [Nat.pow_one, Nat.one_mul, Nat.zero_add]
  · by_cases z1 : k = 1
    · subst z1
      exact (rf_pcl (by decide)).symm
    · rw [if_neg z0, if_neg z1, rf_pc0 (by decide) (by omega)]
theorem rf_lin {post : St2 → Prop} {a1 a2 a3 : Nat → Int32} {R : Nat → Option rf_P} (f c n : Nat) (hf : f < 4) (hc : c < 101) (hn : n ≤ 3) (hR : rf_ok R a1 a2) (H : ∀ b1 b2 b3, rf_ok (rf_up (rf_up (rf_cut R (2 * f)) (2 * f) (rf_pw c n)) (2 * f + 1) rf_one) b1 b2 → b3 f = nI n → (∀ j, j < f → b3 j = a3 j) → post (nI (f + 1), b1, b2, b3)) : wpL_linear post (nI f, a1, a2, a3) (nI c) (nI n) := by
  unfold wpL_linear
  dsimp only
  refine rf_var f (by omega) hR (fun b1 b2 k1 => ?_)
  refine rf_cst (f + 1) c (by omega) hc k1 (fun b1 b2 k2 => ?_)
  refine rf_ap0 f 1 0 rf_X rf_one (rf_kon c) rf_one rf_X (rf_kon c) rf_one (rf_pw c 1) (by omega) k2 ?_ ?_ ?_ rf_us (by decide) ?_ (by decide) (rf_fo rf_gdX) (rf_fo (rf_gdk hc)) (rf_fo rf_gd1) rf_gdX (rf_gdk hc) rf_gd1 (fun k _ => ?_) (rf_gdp (by decide)) ?_ ?_ (by decide) (rf_low11 (2 * f) (2 * f + 1) (rf_pw c 1) (rf_gdp (by decide)) ?_ rf_us (by omega) (by omega) (by omega) (Nat.succ_pos 1)) (fun b1 b2 k3 => ?_)
  · rw [rf_un (by omega), rf_un (by omega), rf_un (by omega)]
    exact rf_us
  · rw [rf_un (by omega), rf_un (by omega)]
    exact rf_us
  · rw [rf_un (by omega)]
    exact rf_us
  · show (if c = 0 then 0 else 1) + 1 ≤ 41
    split <;> omega
  · have h1 := rf_gdX.2.1 k
    have h2 := (rf_gdk hc).2.1 k
    rw [Int32.one_mul, nI_add, ← rf_X1 hc]
    exact rf_redp (by omega)
  · dsimp only
    rw [pk_un (by omega), pk_us]
    rfl
  · dsimp only
    rw [pk_us]
    rfl
  · rw [rf_un (by omega)]
    exact rf_us
  · refine rf_pow f c n 1 (by omega) hc hn k3 (by rw [rf_un (by omega)]; exact rf_us) rf_us pk_us (by omega) (fun b1 b2 k4 => H b1 b2 _ ?_ ?_ ?_)
    · refine rf_mono k4 (fun k x e => ?_)
      rw [rf_cutc (R' := R) ?_]
      · exact e
      · intro k hk
        rw [rf_un (by omega), rf_un (by omega), rf_ern (by omega), rf_un (by omega), rf_un (by omega), rf_ewn (by omega), rf_un (by omega), rf_un (by omega), rf_un (by omega), rf_un (by omega)]
    · dsimp only
      rw [pk_us, Nat.mul_one]
    · intro j hj
      dsimp only
      rw [pk_un (by omega), pk_un (by omega), pk_un (by omega), pk_un (by omega)]
end
section
/-! values -/
theorem rf_at10 {post : Int32 → Prop} {c : Int32} {a1 a2 a3 : Nat → Int32} {p a : Nat} {f : Nat → Nat} (hp : p < 24) (ha : a < 101) (h1 : ∀ i, i < 40 → a1 (p * 40 + i) = nI (f i)) (hb : ∀ i, f i < 101) : ∀ i, i ≤ 40 → ∀ v, v < 101 → post (nI (rf_hn f a i v)) → wX_at_10 post (nI p) (nI a) c a1 a2 a3 (i + 1) (nI v) (nI i - 1)
  | 0, _, v, _, H => br_t (by decide) H
  | i + 1, hi, v, hv, H => by
    have hm : v * a < 101 * 101 := Nat.mul_lt_mul'' hv ha
    have hfi := hb i
    refine br_f (by rw [rf_dz (by omega)]; omega) ⟨pk_in (p * 40 + i) 960 (by omega) (by rw [nI_pred, rf_ix]), rf_101, nm_r (e' := nI ((v * a + f i) % 101)) ?_ (nm_r (e' := nI i - 1) ?_ (rf_at10 hp ha h1 hb i (by omega) _ (rf_mlt _) H))⟩
    · rw [nI_pred, rf_cl hp (by omega), h1 i (by omega), pk_mul, nI_add, rf_rm (by omega)]
    · rw [nI_pred, Int32.sub_eq_add_neg]
theorem rf_atw {post : Int32 → Prop} {c : Int32} {a1 a2 a3 : Nat → Int32} {R : Nat → Option rf_P} (p a : Nat) (v : rf_P) (hR : rf_ok R a1 a2) (hp : R p = some v) (ha : a < 101) {x y : Int32} (hx : x = nI p) (hy : y = nI a) (H : post (nI (rf_hn v.1 a v.2 0))) : wpX_at post (c, a1, a2, a3) x y := by
  subst hx hy
  obtain ⟨hp4, ⟨h1, h2⟩, gv⟩ := hR p v hp
  exact ⟨pk_in p 24 hp4, nm_r (by rw [nI_clamp (by omega), h2]) ⟨v.2 + 1, rf_at10 hp4 ha h1 gv.2.1 v.2 gv.1 0 (by decide) H⟩⟩
def rf_fr (v w : rf_P) (a : Nat) : Int32 := if rf_hn w.1 a w.2 0 = 0 then -4 else nI (rf_hn v.1 a v.2 0 * rf_inv (rf_hn w.1 a w.2 0) % 101)
theorem rf_frw {post : Int32 → Prop} {c : Int32} {a1 a2 a3 : Nat → Int32} {R : Nat → Option rf_P} (p q a : Nat) (v w : rf_P) (hR : rf_ok R a1 a2) (hp : R p = some v) (hq : R q = some w) (ha : a < 101) {x y z : Int32} (hx : x = nI p) (hy : y = nI q) (hz : z = nI a) (H : post (rf_fr v w a)) : wpX_fractionAt post (c, a1, a2, a3) x y z := by
  unfold wpX_fractionAt
  dsimp only
  have l1 := rf_hnlt w.1 a w.2 0 (by decide)
  have l2 := rf_hnlt v.1 a v.2 0 (by decide)
  have l3 := rf_invlt (rf_hn w.1 a w.2 0)
  unfold rf_fr at H
  refine rf_atw q a w hR hq ha hy hz (pk_eq (rf_hn w.1 a w.2 0) 0 (fun e => ?_) (fun e => ?_))
  · rw [if_pos e] at H
    exact H
  · rw [if_neg e] at H
    refine rf_atw p a v hR hp ha hx hz (rf_invw (rf_hn w.1 a w.2 0) l1 rfl ⟨rf_101, ?_⟩)
    rw [rf_mm (by omega) (by omega)]
    exact H
/-! the stack of one, of two -/
def rf_S1 (A B : rf_P) : Nat → Option rf_P := rf_up (rf_up (fun _ => none) 0 A) 1 B
def rf_S2 (A B C D : rf_P) : Nat → Option rf_P := rf_up (rf_up (rf_S1 A B) 2 C) 3 D
theorem rf_S10 {A B : rf_P} : rf_S1 A B 0 = some A := rfl
theorem rf_S11 {A B : rf_P} : rf_S1 A B 1 = some B := rfl
theorem rf_S1m {A B : rf_P} {R : Nat → Option rf_P} (h0 : R 0 = some A) (h1 : R 1 = some B) : ∀ k v, rf_S1 A B k = some v → R k = some v := by
  intro k v e
  unfold rf_S1 at e
  by_cases z1 : k = 1
  · subst z1
    rw [rf_us] at e
    rw [h1, e]
  · by_cases z0 : k = 0
    · subst z0
      rw [rf_un z1, rf_us] at e
      rw [h0, e]
    · rw [rf_un z1, rf_un z0] at e
      exact absurd e (by simp)
theorem rf_S2m {A B C D : rf_P} {R : Nat → Option rf_P} (h0 : R 0 = some A) (h1 : R 1 = some B) (h2 : R 2 = some C) (h3 : R 3 = some D) : ∀ k v, rf_S2 A B C D k = some v → R k = some v := by
  intro k v e
  unfold rf_S2 at e
  by_cases z3 : k = 3
  · subst z3
    rw [rf_us] at e
    rw [h3, e]
  · by_cases z2 : k = 2
    · subst z2
      rw [rf_un z3, rf_us] at e
      rw [h2, e]
    · rw [rf_un z3, rf_un z2] at e
      exact rf_S1m h0 h1 k v e
/-! zeros, poles -/
def rf_ct (z : Nat → Bool) : Nat → Nat
  | 0 => 0
  | i + 1 => rf_ct z i + (if z i = true then 1 else 0)
theorem rf_zer {post : Int32 → Prop} {a1 a2 a3 : Nat → Int32} {R : Nat → Option rf_P} (v w : rf_P) (z : Nat → Bool) (hR : rf_ok R a1 a2) (hv : R 0 = some v) (hw : R 1 = some w) (hz : ∀ a, a < 101 → (rf_fr v w a = 0 ↔ z a = true)) (H : post (nI (rf_ct z 101))) : wpX_zeros post (nI 1, a1, a2, a3) := by
  refine br_f (by decide) (pk_loop (σ := Unit) (fun n i _ => wX_zeros_14 post (nI 1) a1 a2 a3 n (nI (rf_ct z i)) (nI i)) (fun _ _ => True) 101 0 () (by omega) trivial ?_ ?_)
  · intro n _ _
    exact pk_le 101 101 (fun _ => H) (fun z => absurd z (by omega))
  · intro n i _ hi _ hw'
    have t : wX_zeros_14 post (nI 1) a1 a2 a3 n (nI (rf_ct z (i + 1))) (nI (i + 1)) := hw' () trivial
    refine pk_le 101 i (fun z => absurd z (by omega)) (fun _ => rf_frw 0 1 i v w hR hv hw hi (by decide) (by decide) rfl ?_)
    by_cases zi : z i = true
    · rw [show rf_ct z (i + 1) = rf_ct z i + 1 from congrArg (rf_ct z i + ·) (if_pos zi)] at t
      exact br_t ((hz i hi).mpr zi) (nm_r (nI_1 (rf_ct z i)) (nm_r (nI_1 i) t))
    · rw [show rf_ct z (i + 1) = rf_ct z i + 0 from congrArg (rf_ct z i + ·) (if_neg zi), Nat.add_zero] at t
      exact br_f (fun e => zi ((hz i hi).mp e)) (nm_r (nI_1 i) t)
theorem rf_pol {post : Int32 → Prop} {a1 a2 a3 : Nat → Int32} {R : Nat → Option rf_P} (w : rf_P) (z : Nat → Bool) (hR : rf_ok R a1 a2) (hw : R 1 = some w) (hz : ∀ a, a < 101 → (rf_hn w.1 a w.2 0 = 0 ↔ z a = true)) (H : post (nI (rf_ct z 101))) : wpX_poles post (nI 1, a1, a2, a3) := by
  refine br_f (by decide) (pk_loop (σ := Unit) (fun n i _ => wX_poles_14 post (nI 1) a1 a2 a3 n (nI (rf_ct z i)) (nI i)) (fun _ _ => True) 101 0 () (by omega) trivial ?_ ?_)
  · intro n _ _
    exact pk_le 101 101 (fun _ => H) (fun z => absurd z (by omega))
  · intro n i _ hi _ hw'
    have t : wX_poles_14 post (nI 1) a1 a2 a3 n (nI (rf_ct z (i + 1))) (nI (i + 1)) := hw' () trivial
    have l1 := rf_hnlt w.1 i w.2 0 (by decide)
    refine pk_le 101 i (fun z => absurd z (by omega)) (fun _ => rf_atw 1 i w hR hw hi (by decide) rfl (pk_eq (rf_hn w.1 i w.2 0) 0 (fun e => ?_) (fun e => ?_)))
    · rw [show rf_ct z (i + 1) = rf_ct z i + 1 from congrArg (rf_ct z i + ·) (if_pos ((hz i hi).mp e))] at t
      exact nm_r (nI_1 (rf_ct z i)) (nm_r (nI_1 i) t)
    · rw [show rf_ct z (i + 1) = rf_ct z i + 0 from congrArg (rf_ct z i + ·) (if_neg (fun g => e ((hz i hi).mpr g))), Nat.add_zero] at t
      exact nm_r (nI_1 i) t
/-! small methods -/
theorem rf_dgo {post : Int32 → Prop} {c : Int32} {a1 a2 a3 : Nat → Int32} {R : Nat → Option rf_P} (p : Nat) (v : rf_P) (hR : rf_ok R a1 a2) (hp : R p = some v) {x : Int32} (hx : x = nI p) (H : post (nI (v.2 - 1))) : wpX_degreeOf post (c, a1, a2, a3) x := by
  subst hx
  obtain ⟨hp4, ⟨h1, h2⟩, gv⟩ := hR p v hp
  have gl := gv.1
  have e : a2 (nI p).toNatClampNeg = nI v.2 - 1 := by rw [nI_clamp (by omega), h2]
  by_cases z : 0 < v.2
  · refine ⟨pk_in p 24 hp4, br_t (by rw [e, rf_d0 (by omega)]; exact z) ⟨pk_in p 24 hp4, ?_⟩⟩
    rw [e, rf_dp z]
    exact H
  · refine ⟨pk_in p 24 hp4, br_f (by rw [e, rf_d0 (by omega)]; exact z) ?_⟩
    rw [show v.2 - 1 = 0 by omega] at H
    exact H
theorem rf_dgA {post : Int32 → Prop} {a1 a2 a3 : Nat → Int32} {R : Nat → Option rf_P} (v : rf_P) (hR : rf_ok R a1 a2) (hp : R 0 = some v) (H : post (nI (v.2 - 1))) : wpX_degreeAbove post (nI 1, a1, a2, a3) :=
  br_f (by decide) (rf_dgo 0 v hR hp (by decide) H)
theorem rf_dgB {post : Int32 → Prop} {a1 a2 a3 : Nat → Int32} {R : Nat → Option rf_P} (v : rf_P) (hR : rf_ok R a1 a2) (hp : R 1 = some v) (H : post (nI (v.2 - 1))) : wpX_degreeBelow post (nI 1, a1, a2, a3) :=
  br_f (by decide) (rf_dgo 1 v hR hp (by decide) H)
theorem rf_hgt {post : Int32 → Prop} {a1 a2 a3 : Nat → Int32} (H : post (a3 0)) : wpX_height post (nI 1, a1, a2, a3) :=
  br_f (by decide) ⟨pk_in 0 6 (by decide), H⟩
theorem rf_val {post : Int32 → Prop} {a1 a2 a3 : Nat → Int32} {R : Nat → Option rf_P} (a : Nat) (v w : rf_P) (hR : rf_ok R a1 a2) (hp : R 0 = some v) (hq : R 1 = some w) (ha : a < 101) (H : post (rf_fr v w a)) : wpX_value post (nI 1, a1, a2, a3) (nI a) :=
  br_f (nI_pos (by omega)) (pk_lt a 101 (fun _ => br_f (by decide) (rf_frw 0 1 a v w hR hp hq ha (by decide) (by decide) rfl H)) (fun z => absurd z (by omega)))
theorem rf_coA {post : Int32 → Prop} {a1 a2 a3 : Nat → Int32} {R : Nat → Option rf_P} (k : Nat) (v : rf_P) (hR : rf_ok R a1 a2) (hp : R 0 = some v) (hk : k < 24) (H : post (nI (v.1 k))) : wpX_coefficient post (nI 1, a1, a2, a3) (nI k) 0 := by
  obtain ⟨hp4, ⟨h1, h2⟩, gv⟩ := hR 0 v hp
  refine br_f (nI_pos (by omega)) (pk_le k 24 (fun _ => br_f (by decide) (br_t rfl ?_)) (fun z => absurd z (by omega)))
  rw [show 2 * nI 1 - 2 = nI 0 from by decide]
  refine ⟨pk_in (0 * 40 + k) 960 (by omega) (rf_ix 0 k), ?_⟩
  rw [rf_cl (by decide) (by omega), h1 k (by omega)]
  exact H
theorem rf_coB {post : Int32 → Prop} {a1 a2 a3 : Nat → Int32} {R : Nat → Option rf_P} (k : Nat) (v : rf_P) (hR : rf_ok R a1 a2) (hp : R 1 = some v) (hk : k < 24) (H : post (nI (v.1 k))) : wpX_coefficient post (nI 1, a1, a2, a3) (nI k) 1 := by
  obtain ⟨hp4, ⟨h1, h2⟩, gv⟩ := hR 1 v hp
  refine br_f (nI_pos (by omega)) (pk_le k 24 (fun _ => br_f (by decide) (br_f (by decide) ?_)) (fun z => absurd z (by omega)))
  rw [show 2 * nI 1 - 1 = nI 1 from by decide]
  refine ⟨pk_in (1 * 40 + k) 960 (by omega) (rf_ix 1 k), ?_⟩
  rw [rf_cl (by decide) (by omega), h1 k (by omega)]
  exact H
theorem rf_dup {post : Int32 → St2 → Prop} {a1 a2 a3 : Nat → Int32} {R : Nat → Option rf_P} (v w : rf_P) (hR : rf_ok R a1 a2) (hp : R 0 = some v) (hq : R 1 = some w) (H : ∀ b1 b2, rf_ok (rf_S2 v w v w) b1 b2 → post (nI 2) (nI 2, b1, b2, upd a3 1 (a3 0))) : wpX_dup post (nI 1, a1, a2, a3) := by
  refine br_f (by decide) (br_f (by decide) ?_)
  refine rf_cpy 0 2 v hR hp (by decide) (by decide) (by decide) (fun b1 b2 k1 => ?_)
  refine rf_cpy 1 3 w k1 (by rw [rf_un (by decide)]; exact hq) (by decide) (by decide) (by decide) (fun b1 b2 k2 => ⟨pk_in 0 6 (by decide), ?_⟩)
  refine rf_psh (f := 1) (by decide) (H b1 b2 (rf_mono k2 (rf_S2m ?_ ?_ ?_ rf_us)))
  · rw [rf_un (by decide), rf_un (by decide)]
    exact hp
  · rw [rf_un (by decide), rf_un (by decide)]
    exact hq
  · rw [rf_un (by decide)]
    exact rf_us
theorem rf_alk {post : Int32 → Prop} {c : Int32} {a1 a2 a3 : Nat → Int32} {R : Nat → Option rf_P} (p q : Nat) (v : rf_P) (hR : rf_ok R a1 a2) (hp : R p = some v) (hq : R q = some v) {x y : Int32} (hx : x = nI p) (hy : y = nI q) (H : post 1) : wpX_alike post (c, a1, a2, a3) x y := by
  subst hx hy
  obtain ⟨hp4, ⟨h1, h2⟩, gv⟩ := hR p v hp
  obtain ⟨hq4, ⟨k1, k2⟩, _⟩ := hR q v hq
  refine ⟨pk_in p 24 hp4, pk_in q 24 hq4, br_t (by rw [nI_clamp (by omega), nI_clamp (by omega), h2, k2]) (pk_loop (σ := Unit) (fun n i _ => wX_alike_24 post (nI p) (nI q) c a1 a2 a3 n 1 (nI i)) (fun _ _ => True) 40 0 () (by omega) trivial ?_ ?_)⟩
  · intro n _ _
    exact pk_le 40 40 (fun _ => ⟨rfl, H⟩) (fun z => absurd z (by omega))
  · intro n i _ hi _ hw
    exact pk_le 40 i (fun z => absurd z (by omega)) (fun _ => br_f (by decide) ⟨pk_in (p * 40 + i) 960 (by omega) (rf_ix p i), pk_in (q * 40 + i) 960 (by omega) (rf_ix q i), br_t (by rw [rf_cl hp4 (by omega), rf_cl hq4 (by omega), h1 i hi, k1 i hi]) (nm_r (nI_1 i) (hw () trivial))⟩)
theorem rf_sam {post : Int32 → Prop} {a1 a2 a3 : Nat → Int32} {v w : rf_P} (hR : rf_ok (rf_S2 v w v w) a1 a2) (H : post 1) : wpX_same post (nI 2, a1, a2, a3) :=
  br_t (by decide) (nm_r (e' := nI 0) (by decide) (rf_alk 0 2 v hR rfl rfl rfl (by decide) (br_f (by decide) (rf_alk 1 3 w hR rfl rfl (by decide) (by decide) (br_f (by decide) H)))))
end
section
/-! slope -/
def rf_B (R : Nat → Option rf_P) (U' D' m18 m19 r m23 : rf_P) : Nat → Option rf_P := rf_up (rf_up (rf_up (rf_up (rf_up (rf_up R 16 U') 17 D') 18 m18) 19 m19) 22 r) 23 m23
theorem rf_Bn {R : Nat → Option rf_P} {U' D' m18 m19 r m23 : rf_P} {k : Nat} (hk : k < 2) : rf_B R U' D' m18 m19 r m23 k = R k := by
  unfold rf_B
  rw [rf_un (by omega), rf_un (by omega), rf_un (by omega), rf_un (by omega), rf_un (by omega), rf_un (by omega)]
theorem rf_B22 {R : Nat → Option rf_P} {U' D' m18 m19 r m23 : rf_P} : rf_B R U' D' m18 m19 r m23 22 = some r := rfl
theorem rf_B23 {R : Nat → Option rf_P} {U' D' m18 m19 r m23 : rf_P} : rf_B R U' D' m18 m19 r m23 23 = some m23 := rfl
theorem rf_df {post : St2 → Prop} {c : Int32} {a1 a2 a3 : Nat → Int32} {R R' : Nat → Option rf_P} (U D U' D' m18 m19 r m23 : rf_P) (hR : rf_ok R a1 a2) (h0 : R 0 = some U) (h1 : R 1 = some D) (sU : U.2 ≤ 39) (sD : D.2 ≤ 39) (dU : ∀ k, k < 40 → (k + 1) * U.1 (k + 1) % 101 = U'.1 k) (gU : rf_gd U') (dD : ∀ k, k < 40 → (k + 1) * D.1 (k + 1) % 101 = D'.1 k) (gD : rf_gd D') (s18 : U'.2 + D.2 ≤ 41) (q18 : ∀ k, k < 40 → rf_cv U'.1 D.1 k U'.2 % 101 = m18.1 k) (g18 : rf_gd m18) (s19 : U.2 + D'.2 ≤ 41) (q19 : ∀ k, k < 40 → rf_cv U.1 D'.1 k U.2 % 101 = m19.1 k) (g19 : rf_gd m19) (qr : ∀ k, k < 40 → rf_red (nI (m18.1 k) + (-1) * nI (m19.1 k)) (r.1 k)) (gr : rf_gd r) (s23 : D.2 + D.2 ≤ 41) (q23 : ∀ k, k < 40 → rf_cv D.1 D.1 k D.2 % 101 = m23.1 k) (g23 : rf_gd m23) (hlow : rf_Low 22 23 (rf_B R U' D' m18 m19 r m23) R') (H : ∀ b1 b2, rf_ok R' b1 b2 → post (c, b1, b2, a3)) : wpX_deriveFraction post (c, a1, a2, a3) (nI 0) := by
  unfold wpX_deriveFraction
  dsimp only
  refine rf_der 0 16 U U' hR h0 (by decide) sU dU gU (by decide) rfl (fun b1 b2 k1 => ?_)
  refine rf_der 1 17 D D' k1 (by rw [rf_un (by decide)]; exact h1) (by decide) sD dD gD (by decide) rfl (fun b1 b2 k2 => ?_)
  refine rf_mul 16 1 18 U' D m18 k2 (by rw [rf_un (by decide)]; exact rf_us) (by rw [rf_un (by decide), rf_un (by decide)]; exact h1) (by decide) (by decide) (by decide) s18 q18 g18 rfl (by decide) rfl (fun b1 b2 k3 => ?_)
  refine rf_mul 0 17 19 U D' m19 k3 (by rw [rf_un (by decide), rf_un (by decide), rf_un (by decide)]; exact h0) (by rw [rf_un (by decide)]; exact rf_us) (by decide) (by decide) (by decide) s19 q19 g19 (by decide) rfl rfl (fun b1 b2 k4 => ?_)
  refine rf_add 18 19 22 m18 m19 r (-1) k4 (by rw [rf_un (by decide)]; exact rf_us) rf_us (by decide) qr gr rfl rfl rfl (fun b1 b2 k5 => ?_)
  refine rf_mul 1 1 23 D D m23 k5 (by rw [rf_un (by decide), rf_un (by decide), rf_un (by decide), rf_un (by decide), rf_un (by decide)]; exact h1) (by rw [rf_un (by decide), rf_un (by decide), rf_un (by decide), rf_un (by decide), rf_un (by decide)]; exact h1) (by decide) (by decide) (by decide) s23 q23 g23 (by decide) (by decide) rfl (fun b1 b2 k6 => ?_)
  exact hlow _ _ _ _ _ k6 (fun b1 b2 hb => H b1 b2 hb)
theorem rf_slo {post : Int32 → St2 → Prop} {a1 a2 a3 : Nat → Int32} {R R' : Nat → Option rf_P} (U D U' D' m18 m19 r m23 V W : rf_P) (a : Nat) (ha : a < 101) (hR : rf_ok R a1 a2) (h0 : R 0 = some U) (h1 : R 1 = some D) (sU : U.2 ≤ 39) (sD : D.2 ≤ 39) (dU : ∀ k, k < 40 → (k + 1) * U.1 (k + 1) % 101 = U'.1 k) (gU : rf_gd U') (dD : ∀ k, k < 40 → (k + 1) * D.1 (k + 1) % 101 = D'.1 k) (gD : rf_gd D') (s18 : U'.2 + D.2 ≤ 41) (q18 : ∀ k, k < 40 → rf_cv U'.1 D.1 k U'.2 % 101 = m18.1 k) (g18 : rf_gd m18) (s19 : U.2 + D'.2 ≤ 41) (q19 : ∀ k, k < 40 → rf_cv U.1 D'.1 k U.2 % 101 = m19.1 k) (g19 : rf_gd m19) (qr : ∀ k, k < 40 → rf_red (nI (m18.1 k) + (-1) * nI (m19.1 k)) (r.1 k)) (gr : rf_gd r) (s23 : D.2 + D.2 ≤ 41) (q23 : ∀ k, k < 40 → rf_cv D.1 D.1 k D.2 % 101 = m23.1 k) (g23 : rf_gd m23) (hlow : rf_Low 22 23 (rf_B R U' D' m18 m19 r m23) R') (hV : R' 22 = some V) (hW : R' 23 = some W) (h0' : R' 0 = some U) (h1' : R' 1 = some D) (H : ∀ b1 b2, rf_ok (rf_S1 U D) b1 b2 → post (rf_fr V W a) (nI 1, b1, b2, a3)) : wpX_slope post (nI 1, a1, a2, a3) (nI a) := by
  refine br_f (nI_pos (by omega)) (pk_lt a 101 (fun _ => br_f (by decide) ?_) (fun z => absurd z (by omega)))
  rw [show nI 1 - 1 = nI 0 from by decide]
  exact rf_df U D U' D' m18 m19 r m23 hR h0 h1 sU sD dU gU dD gD s18 q18 g18 s19 q19 g19 qr gr s23 q23 g23 hlow (fun b1 b2 hb => rf_frw 22 23 a V W hb hV hW ha rfl rfl rfl (H b1 b2 (rf_mono hb (rf_S1m h0' h1'))))
theorem rf_T6 : ∀ b, b < 101 → ∀ e, e < 7 → (b ^ e % 101 = 0 ↔ b = 0 ∧ 0 < e) := by decide +kernel
def rf_sl (c a u d : Nat) : Int32 := if d = 0 then nI (u * ((a + c) % 101) ^ (u - 1) % 101) else if (a + c) % 101 = 0 then -4 else nI ((101 - d) * rf_inv (((a + c) % 101) ^ (d + 1) % 101) % 101)
theorem rf_hn1 (a : Nat) : rf_hn rf_one.1 a rf_one.2 0 = 1 := by
  show (0 * a + 1) % 101 = 1
  rw [Nat.zero_mul]
theorem rf_fr1 (v : rf_P) (a : Nat) : rf_fr v rf_one a = nI (rf_hn v.1 a v.2 0) := by
  have l2 := rf_hnlt v.1 a v.2 0 (by decide)
  unfold rf_fr
  rw [rf_hn1, if_neg (by decide), show rf_inv 1 = 1 from by decide, rf_m1 l2]
theorem rf_hnmp {u c e a : Nat} (hc : c < 101) (ha : a < 101) (he : e < 7) : rf_hn (rf_mp u c e).1 a (rf_mp u c e).2 0 = u * ((a + c) % 101) ^ e % 101 := by
  have h := rf_hnm (rf_pc c e) a u (e + 1) 0
  rw [rf_T3 c hc a ha e he, Nat.mul_mod_mod] at h
  exact h
theorem rf_hnpw {c e a : Nat} (hc : c < 101) (ha : a < 101) (he : e < 7) : rf_hn (rf_pw c e).1 a (rf_pw c e).2 0 = ((a + c) % 101) ^ e % 101 := rf_T3 c hc a ha e he
theorem rf_hnk {u : Nat} (a : Nat) (h0 : u ≠ 0) (hu : u < 101) : rf_hn (rf_kon u).1 a (rf_kon u).2 0 = u := by
  show rf_hn (fun k => if k = 0 then u else 0) a (if u = 0 then 0 else 1) 0 = u
  rw [if_neg h0]
  show (0 * a + u) % 101 = u
  rw [Nat.zero_mul, Nat.zero_add]
  exact Nat.mod_eq_of_lt hu
theorem rf_cvz (f : Nat → Nat) (k : Nat) (t : Nat) : rf_cv f rf_zp.1 k t % 101 = 0 := by
  induction t with
  | zero => rfl
  | succ t ih =>
    rw [rf_cvS, show rf_zp.1 (k - t) = 0 from rfl, Nat.mul_zero]
    split <;> omega
theorem rf_d1 : ∀ k, k < 40 → (k + 1) * rf_one.1 (k + 1) % 101 = rf_zp.1 k := by
  intro k _
  show (k + 1) * (if k + 1 = 0 then 1 else 0) % 101 = 0
  rw [if_neg (by omega), Nat.mul_zero]
theorem rf_redz {x : Nat} (h : x < 101) : rf_red (nI x + (-1) * nI (rf_zp.1 0)) x := by
  have h2 := rf_redp (a := x) (by omega)
  rw [Nat.mod_eq_of_lt h] at h2
  rw [show (-1 : Int32) * nI (rf_zp.1 0) = nI 0 from by decide, nI_add]
  exact h2
theorem rf_neg1 (x : Nat) (y : Nat) : nI x + (-1) * nI y = nI x - nI y := by
  rw [Int32.neg_mul, Int32.one_mul, Int32.sub_eq_add_neg]
/-- the slope of (x + c)^u / (x + c)^d, one of u and d 0 -/
theorem rf_slp {post : Int32 → St2 → Prop} {a1 a2 a3 : Nat → Int32} (c a u d : Nat) (hc : c < 101) (ha : a < 101) (hu : u < 7) (hd : d < 4) (hud : u = 0 ∨ d = 0) (hR : rf_ok (rf_S1 (rf_pw c u) (rf_pw c d)) a1 a2) (H : ∀ b1 b2, rf_ok (rf_S1 (rf_pw c u) (rf_pw c d)) b1 b2 → post (rf_sl c a u d) (nI 1, b1, b2, a3)) : wpX_slope post (nI 1, a1, a2, a3) (nI a) := by
  by_cases d0 : d = 0
  · subst d0
    by_cases u0 : u = 0
    · subst u0
      rw [rf_pw0] at hR H
      have e : rf_fr rf_zp rf_one a = rf_sl c a 0 0 := by
        rw [rf_fr1]
        unfold rf_sl
        rw [if_pos rfl, Nat.zero_mul]
        rfl
      rw [← e] at H
      exact rf_slo rf_one rf_one rf_zp rf_zp rf_zp rf_zp rf_zp rf_one rf_zp rf_one a ha hR rf_S10 rf_S11 (by decide) (by decide) rf_d1 rf_gdz rf_d1 rf_gdz (by decide) (fun k _ => rfl) rf_gdz (by decide) (fun k _ => rf_cvz _ k _) rf_gdz (fun k _ => rf_redz (x := 0) (by decide)) rf_gdz (by decide) (rf_fo rf_gd1) rf_gd1 (rf_low0 22 23 rf_zp rf_B22 (by decide) rfl) rfl rfl rfl rfl H
    · obtain ⟨e, rfl⟩ : ∃ e, u = e + 1 := ⟨u - 1, by omega⟩
      rw [rf_pw0] at hR H
      have gU : rf_gd (rf_mp (e + 1) c e) := rf_gdm (by omega) (by omega) (by omega)
      have hv : rf_fr (rf_mp (e + 1) c e) rf_one a = rf_sl c a (e + 1) 0 := by
        rw [rf_fr1, rf_hnmp hc ha (by omega)]
        unfold rf_sl
        rw [if_pos rfl]
        rfl
      rw [← hv] at H
      refine rf_slo (rf_pw c (e + 1)) rf_one (rf_mp (e + 1) c e) rf_zp (rf_mp (e + 1) c e) rf_zp (rf_mp (e + 1) c e) rf_one (rf_mp (e + 1) c e) rf_one a ha hR rf_S10 rf_S11 (show e + 1 + 1 ≤ 39 by omega) (by decide) (rf_dd hc (by omega)) gU rf_d1 rf_gdz (show e + 1 + 1 ≤ 41 by omega) (rf_fo gU) gU (show e + 1 + 1 + 0 ≤ 41 by omega) (fun k _ => rf_cvz _ k _) rf_gdz (fun k _ => rf_redz (gU.2.1 k)) gU (by decide) (rf_fo rf_gd1) rf_gd1 (rf_low11 22 23 (rf_mp (e + 1) c e) gU rf_B22 rf_B23 (by decide) (by decide) (by decide) (Nat.succ_pos e)) ?_ rf_us ?_ ?_ H
      · rw [rf_un (by decide)]
        exact rf_us
      · rw [rf_un (by decide), rf_un (by decide), rf_ern (by decide), rf_Bn (by decide)]
        exact rf_S10
      · rw [rf_un (by decide), rf_un (by decide), rf_ern (by decide), rf_Bn (by decide)]
        exact rf_S11
  · have u0 : u = 0 := by omega
    subst u0
    obtain ⟨e, rfl⟩ : ∃ e, d = e + 1 := ⟨d - 1, by omega⟩
    rw [rf_pw0] at hR H
    have g1 : rf_gd (rf_pw c (e + 1)) := rf_gdp (by omega)
    have gD : rf_gd (rf_mp (e + 1) c e) := rf_gdm (by omega) (by omega) (by omega)
    have gr : rf_gd (rf_mp (100 - e) c e) := rf_gdm (by omega) (by omega) (by omega)
    obtain ⟨i1, i2, i3⟩ := rf_T5 e (by omega)
    have gs : rf_gd (rf_mp (rf_inv (100 - e)) c (e + 2)) := rf_gdm (by omega) i1 i2
    have hv : rf_fr (rf_kon (100 - e)) (rf_pw c (e + 2)) a = rf_sl c a 0 (e + 1) := by
      have hb : (a + c) % 101 < 101 := rf_mlt _
      unfold rf_sl rf_fr
      rw [if_neg d0, rf_hnpw hc ha (by omega), rf_hnk a (by omega) (by omega)]
      by_cases z : (a + c) % 101 = 0
      · rw [if_pos z, if_pos ((rf_T6 _ hb (e + 2) (by omega)).mpr ⟨z, by omega⟩)]
      · rw [if_neg z, if_neg (fun g => z ((rf_T6 _ hb (e + 2) (by omega)).mp g).1), show 101 - (e + 1) = 100 - e by omega]
    rw [← hv] at H
    refine rf_slo rf_one (rf_pw c (e + 1)) rf_zp (rf_mp (e + 1) c e) rf_zp (rf_mp (e + 1) c e) (rf_mp (100 - e) c e) (rf_pw c (2 * (e + 1))) (rf_kon (100 - e)) (rf_pw c (e + 2)) a ha hR rf_S10 rf_S11 (by decide) (show e + 1 + 1 ≤ 39 by omega) rf_d1 rf_gdz (rf_dd hc (by omega)) gD (show 0 + (e + 1 + 1) ≤ 41 by omega) (fun k _ => rfl) rf_gdz (show 1 + (e + 1) ≤ 41 by omega) (rf_of gD) gD (fun k _ => ?_) gr (show e + 1 + 1 + (e + 1 + 1) ≤ 41 by omega) (fun k hk => ?_) (rf_gdp (by omega)) (rf_low2 22 23 (rf_mp (100 - e) c e) (rf_pw c (2 * (e + 1))) (rf_mp (rf_inv (100 - e)) c (e + 2)) (rf_pw c (e + 2)) (100 - e) rf_B22 rf_B23 (by decide) (by decide) (by decide) (Nat.succ_pos e) (show e + 1 < 2 * (e + 1) + 1 by omega) gs (show e + 2 + 1 + (e + 1) ≤ 41 by omega) (rf_qq hc (by omega)) (Nat.succ_pos _) ?_ (fun k _ => rf_T5m (by omega) k) (rf_gdp (by omega))) ?_ rf_us ?_ ?_ H
    · rw [rf_neg1]
      have h := rf_reds (a := 0) (b := (rf_mp (e + 1) c e).1 k) (by decide) (by have := gD.2.1 k; omega)
      have h2 : (0 + 100 * (rf_mp (e + 1) c e).1 k) % 101 = (rf_mp (100 - e) c e).1 k := by
        show (0 + 100 * ((e + 1) * rf_pc c e k % 101)) % 101 = (100 - e) * rf_pc c e k % 101
        have he : e = 0 ∨ e = 1 ∨ e = 2 := by omega
        rcases he with rfl | rfl | rfl <;> omega
      rw [h2] at h
      exact h
    · rw [show 2 * (e + 1) = e + 1 + (e + 1) by omega]
      exact rf_pp hc (by omega) k hk
    · show 100 - e = rf_inv (rf_inv (100 - e) * rf_pc c (e + 2) (e + 2 + 1 - 1) % 101)
      rw [Nat.add_sub_cancel, rf_pcl (by omega), i3]
    · rw [rf_un (by decide)]
      exact rf_us
    · rw [rf_un (by decide), rf_un (by decide), rf_ern (by decide), rf_Bn (by decide)]
      exact rf_S10
    · rw [rf_un (by decide), rf_un (by decide), rf_ern (by decide), rf_Bn (by decide)]
      exact rf_S11
end
section
/-! the law's own small methods -/
theorem rf_rai {post : Int32 → Prop} (c n : Nat) (hc : c < 101) (hn : n ≤ 8) {x y : Int32} (hx : x = nI c) (hy : y = nI n) (H : post (nI (c ^ n % 101))) : wpL_raised post () x y := by
  subst hx hy
  have E : ∃ m, wL_raised_4 post (nI c) (nI n) m (nI (c ^ (min 0 n) % 101)) (nI 0) := by
    refine pk_loop (σ := Unit) (fun m i _ => wL_raised_4 post (nI c) (nI n) m (nI (c ^ (min i n) % 101)) (nI i)) (fun _ _ => True) 8 0 () (by omega) trivial ?_ ?_
    · intro m _ _
      show wL_raised_4 post (nI c) (nI n) (m + 1) (nI (c ^ (min 8 n) % 101)) (nI 8)
      rw [show min 8 n = n by omega]
      exact pk_le 8 8 (fun _ => H) (fun z => absurd z (by omega))
    · intro m i _ hi _ hw
      have t : wL_raised_4 post (nI c) (nI n) m (nI (c ^ (min (i + 1) n) % 101)) (nI (i + 1)) := hw () trivial
      show wL_raised_4 post (nI c) (nI n) (m + 1) (nI (c ^ (min i n) % 101)) (nI i)
      refine pk_le 8 i (fun z => absurd z (by omega)) (fun _ => pk_le n i (fun z => nm_r (nI_1 i) ?_) (fun z => ⟨rf_101, nm_r (e' := nI (c ^ (min (i + 1) n) % 101)) ?_ (nm_r (nI_1 i) t)⟩))
      · rw [show min (i + 1) n = min i n by omega] at t
        exact t
      · have h := rf_mlt (c ^ (min i n))
        rw [rf_mm (by omega) (by omega), show min (i + 1) n = min i n + 1 by omega, Nat.pow_succ, Nat.mod_mul_mod]
  rw [Nat.zero_min] at E
  exact E
def rf_ch (u k : Nat) : Nat → Nat
  | 0 => 1
  | i + 1 => if i + 1 ≤ k then rf_ch u k i * (u - k + (i + 1)) / (i + 1) else rf_ch u k i
theorem rf_T8 : ∀ u, u < 7 → ∀ k, k < 7 → k ≤ u → (∀ i, i < 8 → rf_ch u k i < 100) ∧ rf_ch u k 7 = rf_bn u k := by decide +kernel
theorem rf_cho {post : Int32 → Prop} (u k : Nat) (hu : u < 7) (hk : k ≤ u) {x y : Int32} (hx : x = nI u) (hy : y = nI k) (H : post (nI (rf_bn u k))) : wpL_choose post () x y := by
  subst hx hy
  obtain ⟨hb, he⟩ := rf_T8 u hu k (by omega) hk
  rw [← he] at H
  refine pk_loop (σ := Unit) (fun m i _ => wL_choose_4 post (nI u) (nI k) m (nI (rf_ch u k i)) (nI (i + 1))) (fun _ _ => True) 7 0 () (by omega) trivial ?_ ?_
  · intro m _ _
    exact pk_le 8 8 (fun _ => pk_le k u (fun _ => H) (fun z => absurd z (by omega))) (fun z => absurd z (by omega))
  · intro m i _ hi _ hw
    have t : wL_choose_4 post (nI u) (nI k) m (nI (rf_ch u k (i + 1))) (nI (i + 1 + 1)) := hw () trivial
    have hbi := hb i (by omega)
    refine pk_le 8 (i + 1) (fun z => absurd z (by omega)) (fun _ => pk_lt k (i + 1) (fun z => nm_r (nI_1 (i + 1)) ?_) (fun z => ⟨nI_ne0 (by omega) (by omega), nm_r (e' := nI (rf_ch u k (i + 1))) ?_ (nm_r (nI_1 (i + 1)) t)⟩))
    · rw [show rf_ch u k (i + 1) = rf_ch u k i from if_neg (by omega)] at t
      exact t
    · have hm : rf_ch u k i * (u - k + (i + 1)) < 100 * 100 := Nat.mul_lt_mul'' hbi (by omega)
      rw [pk_sub hk, nI_add, pk_mul, pk_div (by omega) (by omega) (by omega), show rf_ch u k (i + 1) = rf_ch u k i * (u - k + (i + 1)) / (i + 1) from if_pos z]
/-! counts of zeros and poles -/
theorem rf_T7 : ∀ c, c < 101 → ∀ b : Bool, rf_ct (fun a => decide ((a + c) % 101 = 0) && b) 101 = if b = true then 1 else 0 := by decide +kernel
def rf_zf (c e : Nat) : Nat → Bool := fun a => decide ((a + c) % 101 = 0) && decide (0 < e)
theorem rf_zfc {c e : Nat} (hc : c < 101) : rf_ct (rf_zf c e) 101 = if 0 < e then 1 else 0 := by
  unfold rf_zf
  rw [rf_T7 c hc]
  by_cases z : 0 < e
  · rw [if_pos z, if_pos (decide_eq_true z)]
  · rw [if_neg z, if_neg (by rw [decide_eq_false z]; decide)]
theorem rf_zft {c e a : Nat} : rf_zf c e a = true ↔ (a + c) % 101 = 0 ∧ 0 < e := by
  unfold rf_zf
  rw [Bool.and_eq_true, decide_eq_true_iff, decide_eq_true_iff]
theorem rf_pz {c e a : Nat} (hc : c < 101) (he : e < 7) (ha : a < 101) : rf_hn (rf_pw c e).1 a (rf_pw c e).2 0 = 0 ↔ rf_zf c e a = true := by
  rw [rf_hnpw hc ha he, rf_T6 _ (rf_mlt _) e he, rf_zft]
theorem rf_invnz {b : Nat} (hb : b < 101) (h : b ≠ 0) : rf_inv b ≠ 0 := by
  intro z
  have := rf_invm b hb h
  rw [z, Nat.mul_zero] at this
  exact absurd this (by decide)
theorem rf_zz {c u d a : Nat} (hc : c < 101) (hu : u < 7) (hd : d < 7) (hud : u = 0 ∨ d = 0) (ha : a < 101) : rf_fr (rf_pw c u) (rf_pw c d) a = 0 ↔ rf_zf c u a = true := by
  by_cases d0 : d = 0
  · subst d0
    have h := rf_mlt (((a + c) % 101) ^ u)
    rw [rf_pw0, rf_fr1, ← rf_pz hc hu ha, rf_hnpw hc ha hu, rf_z0 (by omega)]
  · have u0 : u = 0 := by omega
    subst u0
    rw [rf_zft]
    refine ⟨fun e => absurd e ?_, fun e => absurd e.2 (by decide)⟩
    unfold rf_fr
    have l1 := rf_hnlt (rf_pw c d).1 a (rf_pw c d).2 0 (by decide)
    by_cases z : rf_hn (rf_pw c d).1 a (rf_pw c d).2 0 = 0
    · rw [if_pos z]
      decide
    · have l3 := rf_invlt (rf_hn (rf_pw c d).1 a (rf_pw c d).2 0)
      have l4 := rf_invnz l1 z
      rw [if_neg z, rf_pw0, rf_hn1, Nat.one_mul, Nat.mod_eq_of_lt l3, rf_z0 (by omega)]
      exact l4
theorem rf_z1 (a : Nat) : rf_fr rf_zp rf_one a = 0 := by
  rw [rf_fr1]
  rfl
theorem rf_T9 : rf_ct (fun _ => true) 101 = 101 := by decide
end
section
/-! the law, from its end back -/
theorem rf_532a {post : Int32 → St0 → Prop} {mc ms kc ks a : Nat} {a1 a2 a3 : Nat → Int32} (ha : a < 101) (hR : rf_ok (rf_S1 rf_zp rf_one) a1 a2) (H : post 1 ()) : wL_lawOf_532 post mc ms (nI a) 1 1 (nI 1) kc ks (nI 1) a1 a2 a3 := by
  unfold wL_lawOf_532
  refine br_t rfl (br_f (by decide) (rf_zer rf_zp rf_one (fun _ => true) hR rf_S10 rf_S11 (fun a _ => ⟨fun _ => rfl, fun _ => rf_z1 a⟩) (br_t (by rw [rf_T9]; rfl) (rf_dgB rf_one hR rf_S11 (br_t rfl (rf_val a rf_zp rf_one hR rf_S10 rf_S11 ha (br_t (rf_z1 a) H)))))))
theorem rf_460 {post : Int32 → St0 → Prop} {mc ms kc ks a c u d n m j : Nat} {a1 a2 a3 : Nat → Int32} (ha : a < 101) (hc : c < 101) (hn : n ≤ 3) (hm : m ≤ 3) (hj : j ≤ 3) (hud : u + d < 7) (hd : d ≤ 3) (hR : rf_ok (rf_S1 (rf_pw c u) (rf_pw c d)) a1 a2) (e3 : a3 0 = nI (n + m + j)) (H : post 1 ()) : wL_lawOf_460 post mc ms (nI n) (nI m) (nI j) (nI a) 1 kc ks (nI 1) a1 a2 a3 := by
  have e12 : 2 * (nI n + nI m + nI j) = nI (2 * (n + m + j)) := by
    rw [nI_add, nI_add, rf_t2]
  unfold wL_lawOf_460
  refine rf_dup (rf_pw c u) (rf_pw c d) hR rf_S10 rf_S11 (fun b1 b2 k1 => rf_sam k1 ?_)
  by_cases fit : 2 * (n + m + j) ≤ 12
  · refine rf_ap1 (f := 0) (n + m + j) (n + m + j) (rf_pw c u) (rf_pw c d) (rf_pw c u) (rf_pw c d) (rf_pw c (u + d)) (rf_pw c (u + d)) (rf_pw c (d + d)) rf_zp (by decide) k1 rfl rfl rfl rfl (show u + 1 + (d + 1) ≤ 41 by omega) (show u + 1 + (d + 1) ≤ 41 by omega) (show d + 1 + (d + 1) ≤ 41 by omega) (rf_pp hc (by omega)) (rf_pp hc (by omega)) (rf_pp hc (by omega)) (rf_gdp (by omega)) (rf_gdp (by omega)) (rf_gdp (by omega)) (fun k _ => ?_) rf_gdz (by rw [pk_un (by decide)]; exact e3) (by rw [pk_us]; exact e3) (by omega) (rf_low0 0 1 rf_zp rfl (by decide) rfl) (fun b1 b2 k2 => ?_)
    · have hx := rf_pclt c (u + d) k
      have h := rf_reds (a := (rf_pw c (u + d)).1 k) (b := (rf_pw c (u + d)).1 k) (show rf_pc c (u + d) k < 2 ^ 20 by omega) (show rf_pc c (u + d) k < 2 ^ 20 by omega)
      rw [rf_neg1]
      rw [show ((rf_pw c (u + d)).1 k + 100 * (rf_pw c (u + d)).1 k) % 101 = rf_zp.1 k from by show (rf_pc c (u + d) k + 100 * rf_pc c (u + d) k) % 101 = 0; omega] at h
      exact h
    · refine pk_lt 12 (2 * (n + m + j)) (fun z => absurd z (by omega)) (fun _ => ?_) rfl e12
      unfold wL_lawOf_501
      refine br_f (by decide) (br_t rfl (br_f (by decide) (br_f (by decide) (rf_532a ha (rf_mono k2 (rf_S1m rfl rfl)) H))))
  · refine rf_apF (f := 0) (o := 1) (h1 := n + m + j) (h2 := n + m + j) (by decide) (by decide) (by rw [pk_un (by decide)]; exact e3) (by rw [pk_us]; exact e3) (by omega) (by omega) ?_
    refine pk_lt 12 (2 * (n + m + j)) (fun _ => ?_) (fun z => absurd z (by omega)) rfl e12
    unfold wL_lawOf_501
    refine br_f (by decide) (br_t rfl (br_f (by decide) (br_t rfl ?_)))
    unfold wL_lawOf_532
    exact br_t rfl (br_t rfl H)
theorem rf_379 {post : Int32 → St0 → Prop} {mc ms kc ks a c u d : Nat} {x5 x6 x7 : Int32} {a1 a2 a3 : Nat → Int32} (ha : a < 101) (hd : d ≤ 3) (K : wL_lawOf_455 post mc ms x5 x6 x7 (nI a) kc ks (nI 1) a1 a2 a3) : wL_lawOf_379 post mc ms x5 x6 x7 (nI a) (nI d) 1 (nI ((a + c) % 101)) (rf_sl c a u d) (nI (u * ((a + c) % 101) ^ (u - 1) % 101)) kc ks (nI 1) a1 a2 a3 := by
  have hb : (a + c) % 101 < 101 := rf_mlt _
  unfold wL_lawOf_379
  by_cases d0 : d = 0
  · subst d0
    have es : rf_sl c a u 0 = nI (u * ((a + c) % 101) ^ (u - 1) % 101) := if_pos rfl
    have hs := rf_mlt (u * ((a + c) % 101) ^ (u - 1))
    rw [es]
    refine br_t (nI_pos' (by omega)) (rf_rai ((a + c) % 101) 1 hb (by decide) rfl (by decide) ⟨rf_101, ?_⟩)
    unfold wL_lawOf_405
    exact br_f (by decide) (br_t rfl (br_t rfl K))
  · by_cases b0 : (a + c) % 101 = 0
    · have es : rf_sl c a u d = -4 := by
        unfold rf_sl
        rw [if_neg d0, if_pos b0]
      rw [es, b0]
      refine br_f (by decide) ?_
      unfold wL_lawOf_405
      exact br_f (by decide) (br_f (nI_ne0 (by omega) (by omega)) (br_t rfl (br_t rfl K)))
    · have es : rf_sl c a u d = nI ((101 - d) * rf_inv (((a + c) % 101) ^ (d + 1) % 101) % 101) := by
        unfold rf_sl
        rw [if_neg d0, if_neg b0]
      have hs := rf_mlt ((101 - d) * rf_inv (((a + c) % 101) ^ (d + 1) % 101))
      have hp := rf_mlt (((a + c) % 101) ^ (d + 1))
      have hp0 : ((a + c) % 101) ^ (d + 1) % 101 ≠ 0 := fun g => b0 ((rf_T6 _ hb (d + 1) (by omega)).mp g).1
      rw [es]
      refine br_t (nI_pos' (by omega)) (rf_rai ((a + c) % 101) (d + 1) hb (by omega) rfl (nI_1 d) ⟨rf_101, ?_⟩)
      unfold wL_lawOf_405
      refine br_f (by decide) (br_f (nI_ne0 (by omega) (by omega)) (br_f (nI_ne0 (by omega) (by omega)) ⟨rf_101, br_t ?_ K⟩))
      rw [rf_mm (by omega) (by omega), show (101 : Int32) - nI d = nI (101 - d) from pk_sub (a := 101) (by omega), rf_rm (by omega)]
      apply congrArg nI
      have h1 := rf_invm _ hp hp0
      rw [Nat.mul_comm] at h1
      rw [Nat.mod_mul_mod, Nat.mul_assoc, ← Nat.mul_mod_mod, h1, Nat.mul_one]
theorem rf_bnlt : ∀ u, u < 7 → ∀ k, k < 8 → rf_bn u k < 100 := by decide
/-- a coefficient that is due -/
theorem rf_due {c u i : Nat} (hu : u < 7) (hi : i < 8) : nI (rf_bn u i) * nI (c ^ (u - i) % 101) - nI (rf_bn u i) * nI (c ^ (u - i) % 101) / 101 * 101 = nI (rf_pc c u i) := by
  have h1 := rf_bnlt u hu i hi
  have h2 := rf_mlt (c ^ (u - i))
  rw [rf_mm (by omega) (by omega), Nat.mul_mod_mod]
  rfl
theorem rf_293 {post : Int32 → St0 → Prop} {J : Int32 → Int32 → Prop} {mc ms kc ks c u d i : Nat} {x4 x5 x6 x7 x8 x11 x12 : Int32} {a1 a2 a3 : Nat → Int32} (hi : i < 8) (hR : rf_ok (rf_S1 (rf_pw c u) (rf_pw c d)) a1 a2) (H : J 1 (nI (i + 1))) : wL_lawOf_293 post mc ms J x4 x5 x6 x7 x8 x11 x12 1 (nI i) (nI (rf_pc c u i)) (nI (rf_pc c d i)) kc ks (nI 1) a1 a2 a3 := by
  unfold wL_lawOf_293
  exact br_f (by decide) (rf_coA i (rf_pw c u) hR rf_S10 (by omega) (br_t rfl (rf_coB i (rf_pw c d) hR rf_S11 (by omega) (br_t rfl (nm_r (nI_1 i) H)))))
theorem rf_259 {post : Int32 → St0 → Prop} {J : Int32 → Int32 → Prop} {mc ms kc ks c u d i : Nat} {x5 x6 x7 x8 x11 : Int32} {a1 a2 a3 : Nat → Int32} (hc : c < 101) (hd : d ≤ 3) (hi : i < 8) (hR : rf_ok (rf_S1 (rf_pw c u) (rf_pw c d)) a1 a2) (H : J 1 (nI (i + 1))) : wL_lawOf_259 post mc ms J (nI c) x5 x6 x7 x8 x11 (nI d) 1 (nI i) (nI (rf_pc c u i)) kc ks (nI 1) a1 a2 a3 := by
  unfold wL_lawOf_259
  refine pk_lt d i (fun z => ?_) (fun z => rf_cho d i (by omega) z rfl rfl (rf_rai c (d - i) hc (by omega) rfl (pk_sub z) ⟨rf_101, ?_⟩))
  · have h := rf_293 (post := post) (J := J) (mc := mc) (ms := ms) (kc := kc) (ks := ks) (x4 := nI c) (x5 := x5) (x6 := x6) (x7 := x7) (x8 := x8) (x11 := x11) (x12 := nI d) (a3 := a3) hi hR H
    rw [rf_pc0 (e := d) (by omega) z] at h
    exact h
  · rw [rf_due (by omega) hi]
    exact rf_293 hi hR H
theorem rf_220 {post : Int32 → St0 → Prop} {mc ms kc ks a c u d n m j : Nat} {a1 a2 a3 : Nat → Int32} (ha : a < 101) (hc : c < 101) (hn : n ≤ 3) (hm : m ≤ 3) (hj : j ≤ 3) (hu : u < 7) (hd : d ≤ 3) (hud : u = 0 ∨ d = 0) (hR : rf_ok (rf_S1 (rf_pw c u) (rf_pw c d)) a1 a2) (e3 : a3 0 = nI (n + m + j)) (H : post 1 ()) : ∃ fu, wL_lawOf_220 post mc ms (nI c) (nI n) (nI m) (nI j) (nI a) (nI u) (nI d) kc ks (nI 1) a1 a2 a3 fu 1 0 := by
  refine pk_loop (σ := Unit) (fun fu i _ => wL_lawOf_220 post mc ms (nI c) (nI n) (nI m) (nI j) (nI a) (nI u) (nI d) kc ks (nI 1) a1 a2 a3 fu 1 (nI i)) (fun _ _ => True) 8 0 () (by omega) trivial ?_ ?_
  · intro fu _ _
    refine pk_le 8 8 (fun _ => ⟨rf_101, nm_r (e' := nI ((a + c) % 101)) (by rw [nI_add, rf_rm (by omega)]) (rf_slp c a u d hc ha hu (by omega) hud hR (fun b1 b2 k1 => ?_))⟩) (fun z => absurd z (by omega))
    have K : wL_lawOf_455 post mc ms (nI n) (nI m) (nI j) (nI a) kc ks (nI 1) b1 b2 a3 := rf_460 ha hc hn hm hj (by omega) hd k1 e3 H
    have T := rf_379 (c := c) (u := u) ha hd K
    refine pk_le u 0 (fun z => ?_) (fun z => rf_rai ((a + c) % 101) (u - 1) (rf_mlt _) (by omega) rfl (pk_sub (a := u) (b := 1) z) ⟨rf_101, ?_⟩)
    · have u0 : u = 0 := by omega
      subst u0
      rw [Nat.zero_mul] at T
      exact T
    · have h := rf_mlt (((a + c) % 101) ^ (u - 1))
      rw [rf_mm (by omega) (by omega), Nat.mul_mod_mod]
      exact T
  · intro fu i _ hi _ hw
    refine pk_le 8 i (fun z => absurd z (by omega)) (fun _ => pk_lt u i (fun z => ?_) (fun z => rf_cho u i hu z rfl rfl (rf_rai c (u - i) hc (by omega) rfl (pk_sub z) ⟨rf_101, ?_⟩)))
    · have h := rf_259 (post := post) (J := wL_lawOf_220 post mc ms (nI c) (nI n) (nI m) (nI j) (nI a) (nI u) (nI d) kc ks (nI 1) a1 a2 a3 fu) (mc := mc) (ms := ms) (kc := kc) (ks := ks) (x5 := nI n) (x6 := nI m) (x7 := nI j) (x8 := nI a) (x11 := nI u) (a3 := a3) hc hd hi hR (hw () trivial)
      rw [rf_pc0 (e := u) hu z] at h
      exact h
    · rw [rf_due hu hi]
      exact rf_259 hc hd hi hR (hw () trivial)
theorem rf_207 {post : Int32 → St0 → Prop} {mc ms kc ks : Nat} {x4 x5 x6 x7 x8 x11 x12 z : Int32} {a1 a2 a3 : Nat → Int32} {y : Int32} (e : y = z) (H : ∃ fu, wL_lawOf_220 post mc ms x4 x5 x6 x7 x8 x11 x12 kc ks (nI 1) a1 a2 a3 fu 1 0) : wL_lawOf_207 post mc ms x4 x5 x6 x7 x8 x11 x12 z y kc ks (nI 1) a1 a2 a3 := br_t e H
theorem rf_190 {post : Int32 → St0 → Prop} {mc ms kc ks a c u d n m j : Nat} {a1 a2 a3 : Nat → Int32} {y z : Int32} (e : y = z) (ha : a < 101) (hc : c < 101) (hn : n ≤ 3) (hm : m ≤ 3) (hj : j ≤ 3) (hu : u < 7) (hd : d ≤ 3) (hud : u = 0 ∨ d = 0) (hR : rf_ok (rf_S1 (rf_pw c u) (rf_pw c d)) a1 a2) (e3 : a3 0 = nI (n + m + j)) (H : post 1 ()) : wL_lawOf_190 post mc ms (nI c) (nI n) (nI m) (nI j) (nI a) (nI u) (nI d) z y kc ks (nI 1) a1 a2 a3 := by
  unfold wL_lawOf_190
  refine br_t e (rf_pol (rf_pw c d) (rf_zf c d) hR rf_S11 (fun a ha => rf_pz hc (by omega) ha) (pk_le d 0 (fun z => rf_207 ?_ (rf_220 ha hc hn hm hj hu hd hud hR e3 H)) (fun z => rf_207 ?_ (rf_220 ha hc hn hm hj hu hd hud hR e3 H))))
  · rw [rf_zfc hc, if_neg (by omega)]
    rfl
  · rw [rf_zfc hc, if_pos z]
    rfl
theorem rf_129 {post : Int32 → St0 → Prop} {mc ms kc ks a c u d n m j : Nat} {a1 a2 a3 : Nat → Int32} (ha : a < 101) (hc : c < 101) (hn : n ≤ 3) (hm : m ≤ 3) (hj : j ≤ 3) (hu : u < 7) (hd : d ≤ 3) (hud : u = 0 ∨ d = 0) (hR : rf_ok (rf_S1 (rf_pw c u) (rf_pw c d)) a1 a2) (e3 : a3 0 = nI (n + m + j)) (H : post 1 ()) : wL_lawOf_129 post mc ms (nI c) (nI n) (nI m) (nI j) (nI a) (nI 1) (nI 1) (nI u) (nI d) kc ks (nI 1) a1 a2 a3 := by
  unfold wL_lawOf_129
  refine br_t rfl (br_t rfl (rf_hgt (br_t (by rw [e3, nI_add, nI_add]) (rf_dgA (rf_pw c u) hR rf_S10 (br_t rfl (rf_dgB (rf_pw c d) hR rf_S11 (br_t rfl (rf_zer (rf_pw c u) (rf_pw c d) (rf_zf c u) hR rf_S10 rf_S11 (fun a ha => rf_zz hc hu (by omega) hud ha) (pk_le u 0 (fun z => rf_190 ?_ ha hc hn hm hj hu hd hud hR e3 H) (fun z => rf_190 ?_ ha hc hn hm hj hu hd hud hR e3 H))))))))))
  · rw [rf_zfc hc, if_neg (by omega)]
    rfl
  · rw [rf_zfc hc, if_pos z]
    rfl
end
section
/-! the whole law -/
theorem rf_lowQ {R : Nat → Option rf_P} (c p j : Nat) (hc : c < 101) (hp : p < 7) (hj : j ≤ 3) (h0 : R 0 = some (rf_pw c p)) (h1 : R 1 = some (rf_pw c j)) : rf_Low 0 1 R (rf_S1 (rf_pw c (p - j)) (rf_pw c (j - p))) := by
  by_cases z : j ≤ p
  · have hr : ∀ k, k < 40 → rf_cv (rf_pw c (p - j)).1 (rf_pw c j).1 k (rf_pw c (p - j)).2 % 101 = (rf_pw c p).1 k := by
      intro k hk
      have h := rf_pp (a := p - j) (b := j) hc (by omega) k hk
      rw [show p - j + j = p by omega] at h
      exact h
    refine rf_Lm (rf_low1 0 1 (rf_pw c p) (rf_pw c j) (rf_pw c (p - j)) h0 h1 (by decide) (by decide) (by decide) (Nat.succ_pos _) (Nat.succ_pos _) (rf_gdp (by omega)) (show p - j + 1 + (j + 1) ≤ 41 by omega) hr) (rf_S1m rfl ?_)
    rw [show j - p = 0 by omega, rf_pw0]
    exact rf_us
  · have hr : ∀ k, k < 40 → rf_cv (rf_pw c (j - p)).1 (rf_pw c p).1 k (rf_pw c (j - p)).2 % 101 = (rf_pw c j).1 k := by
      intro k hk
      have h := rf_pp (a := j - p) (b := p) hc (by omega) k hk
      rw [show j - p + p = j by omega] at h
      exact h
    refine rf_Lm (rf_low2 0 1 (rf_pw c p) (rf_pw c j) (rf_pw c (j - p)) (rf_pw c (j - p)) 1 h0 h1 (by decide) (by decide) (by decide) (Nat.succ_pos _) (show p + 1 < j + 1 by omega) (rf_gdp (by omega)) (show j - p + 1 + (p + 1) ≤ 41 by omega) hr (Nat.succ_pos _) ?_ (fun k _ => rf_m1 (rf_pclt _ _ _)) (rf_gdp (by omega))) (rf_S1m ?_ rfl)
    · show 1 = rf_inv (rf_pc c (j - p) (j - p + 1 - 1))
      rw [Nat.add_sub_cancel, rf_pcl (by omega)]
      decide
    · rw [show p - j = 0 by omega, rf_pw0, ← rf_kon1]
      rfl
theorem rf_law {post : Int32 → St0 → Prop} (x y z : Int32) (H : post 1 ()) : wpL_lawOf post 506 8080 () x y z := by
  obtain ⟨c0, hc0, ec⟩ := pk_andE x (m := 127) 7 (by decide)
  obtain ⟨a0, ha0, ea⟩ := pk_andE z (m := 127) 7 (by decide)
  obtain ⟨n, hn, en⟩ := pk_andE y (m := 3) 2 (by decide)
  obtain ⟨m, hm, em⟩ := pk_andE (y >>> ((2 : Int32) &&& 31)) (m := 3) 2 (by decide)
  obtain ⟨j, hj, ej⟩ := pk_andE (y >>> ((4 : Int32) &&& 31)) (m := 3) 2 (by decide)
  have hc : c0 % 101 < 101 := rf_mlt _
  have ha : a0 % 101 < 101 := rf_mlt _
  refine ⟨by decide, by decide, 505, 8076, by decide, by decide, by decide, by decide, by decide, by decide, by decide, by decide, ?_⟩
  refine ⟨rf_101, nm_r (e' := nI (c0 % 101)) (by rw [ec, rf_rm (by omega)]) (nm_r en (nm_r em (nm_r ej ⟨rf_101, nm_r (e' := nI (a0 % 101)) (by rw [ea, rf_rm (by omega)]) ?_⟩)))⟩
  generalize c0 % 101 = c at hc ⊢
  generalize a0 % 101 = a at ha ⊢
  refine rf_lin 0 c n (by decide) hc (by omega) (rf_ok0 _ _) (fun b1 b2 b3 k1 h10 _ => ?_)
  have k1' : rf_ok (rf_S1 (rf_pw c n) rf_one) b1 b2 := rf_mono k1 (rf_S1m rfl rfl)
  refine rf_lin 1 c m (by decide) hc (by omega) k1' (fun d1 d2 d3 k2 h21 h20 => ?_)
  have k2' : rf_ok (rf_S2 (rf_pw c n) rf_one (rf_pw c m) rf_one) d1 d2 := rf_mono k2 (rf_S2m rfl rfl rfl rfl)
  have h20' : d3 0 = nI n := (h20 0 (by decide)).trans h10
  refine rf_ap2 0 n m (rf_pw c n) rf_one (rf_pw c m) rf_one (rf_pw c (n + m)) rf_one (by decide) k2' rfl rfl rfl rfl (show n + 1 + (m + 1) ≤ 41 by omega) (by decide) (rf_pp hc (by omega)) (rf_fo rf_gd1) (rf_gdp (by omega)) rf_gd1 h20' h21 (by omega) (rf_Lm (rf_low11 0 1 (rf_pw c (n + m)) (rf_gdp (by omega)) rfl rfl (by decide) (by decide) (by decide) (Nat.succ_pos _)) (rf_S1m (A := rf_pw c (n + m)) (B := rf_one) rfl rfl)) (fun f1 f2 k3 => ?_)
  refine rf_lin 1 c j (by decide) hc (by omega) k3 (fun g1 g2 g3 k4 h41 h40 => ?_)
  have k4' : rf_ok (rf_S2 (rf_pw c (n + m)) rf_one (rf_pw c j) rf_one) g1 g2 := rf_mono k4 (rf_S2m rfl rfl rfl rfl)
  have h40' : g3 0 = nI (n + m) := (h40 0 (by decide)).trans pk_us
  refine rf_ap3 0 (n + m) j (rf_pw c (n + m)) rf_one (rf_pw c j) rf_one (rf_pw c (n + m)) (rf_pw c j) (by decide) k4' rfl rfl rfl rfl (Nat.succ_pos _) (show n + m + 1 + 1 ≤ 41 by omega) (show 1 + (j + 1) ≤ 41 by omega) (rf_fo (rf_gdp (by omega))) (rf_of (rf_gdp (by omega))) (rf_gdp (by omega)) (rf_gdp (by omega)) h40' h41 (by omega) (rf_lowQ c (n + m) j hc (by omega) (by omega) rfl rfl) (fun t1 t2 k5 => ?_)
  have T := rf_129 (post := post) (mc := 506) (ms := 8080) (kc := 1 + 505) (ks := 4 + 8076) (a := a) (c := c) (u := n + m - j) (d := j - (n + m)) (n := n) (m := m) (j := j) (a3 := upd g3 0 (nI (n + m + j))) ha hc (by omega) (by omega) (by omega) (by omega) (by omega) (by omega) k5 pk_us H
  refine pk_le (n + m) j (fun z => ?_) (fun z => ?_) (nI_add n m) rfl
  · unfold wL_lawOf_105
    rw [show n + m - j = 0 by omega] at T
    refine pk_le j (n + m) (fun z2 => ?_) (fun z2 => ?_) rfl (nI_add n m)
    · rw [show j - (n + m) = 0 by omega] at T
      exact T
    · rw [show nI j - nI n - nI m = nI (j - (n + m)) from by rw [pk_sub (by omega), pk_sub (by omega)]; exact congrArg nI (by omega)]
      exact T
  · unfold wL_lawOf_105
    rw [show nI n + nI m - nI j = nI (n + m - j) from by rw [nI_add, pk_sub (by omega)]]
    refine pk_le j (n + m) (fun z2 => ?_) (fun z2 => absurd z2 (by omega)) rfl (nI_add n m)
    rw [show j - (n + m) = 0 by omega] at T
    exact T
theorem rf_cell {post : Int32 → Prop} {L : Nat} {xs : Nat → Int32} (i : Nat) (hL : L ≤ 3) (hi : i < 3) {x : Int32} (hx : x = nI i) (H : ∀ r, post r) : wpL_cellAt post L xs () x := by
  subst hx
  exact pk_le L i (fun _ => H _) (fun z => ⟨pk_in i L z, H _⟩)
theorem i_vc (xs : Nat → Int32) (L : Nat) (hL : L ≤ 3) : wpL_law (fun r => r = 1) L xs :=
  rf_cell 0 hL (by decide) rfl (fun r1 => rf_cell 1 hL (by decide) rfl (fun r2 => rf_cell 2 hL (by decide) rfl (fun r3 => ⟨506, 8080, by decide, by decide, rf_law r1 r2 r3 rfl⟩)))
end
