section
/-! whole numbers behind Int32, the clamp, effects x -> clamp (x + add) low high and their composition -/
def zq_Z (z : Int) : Int32 := Int32.ofInt z
def zq_B (z : Int) : Prop := -1000000 ≤ z ∧ z ≤ 1000000
theorem zq_nI (n : Nat) : nI n = zq_Z (n : Int) := (Int32.ofInt_eq_ofNat (n := n)).symm
theorem zq_add (a b : Int) : zq_Z a + zq_Z b = zq_Z (a + b) := (Int32.ofInt_add a b).symm
theorem zq_sub (a b : Int) : zq_Z a - zq_Z b = zq_Z (a - b) := (Int32.ofInt_sub a b).symm
theorem zq_neg (a : Int) : - zq_Z a = zq_Z (-a) := (Int32.ofInt_neg a).symm
theorem zq_toInt {a : Int} (h : zq_B a) : (zq_Z a).toInt = a := by
  obtain ⟨h1, h2⟩ := h
  exact Int32.toInt_ofInt_of_le (by omega) (by omega)
theorem zq_leI {a b : Int} (ha : zq_B a) (hb : zq_B b) : zq_Z a ≤ zq_Z b ↔ a ≤ b := by
  rw [Int32.le_iff_toInt_le, zq_toInt ha, zq_toInt hb]
theorem zq_ltI {a b : Int} (ha : zq_B a) (hb : zq_B b) : zq_Z a < zq_Z b ↔ a < b := by
  rw [Int32.lt_iff_toInt_lt, zq_toInt ha, zq_toInt hb]
theorem zq_eqI {a b : Int} (ha : zq_B a) (hb : zq_B b) : zq_Z a = zq_Z b ↔ a = b := by
  rw [← Int32.toInt_inj, zq_toInt ha, zq_toInt hb]
theorem zq_le {x y : Int32} {A B : Prop} (a b : Int) (hx : x = zq_Z a) (hy : y = zq_Z b) (ha : zq_B a) (hb : zq_B b) (f : a ≤ b → A) (g : b < a → B) : (x ≤ y → A) ∧ (¬ x ≤ y → B) := by
  subst hx hy
  rw [zq_leI ha hb]
  exact ⟨f, fun z => g (by omega)⟩
theorem zq_lt {x y : Int32} {A B : Prop} (a b : Int) (hx : x = zq_Z a) (hy : y = zq_Z b) (ha : zq_B a) (hb : zq_B b) (f : a < b → A) (g : b ≤ a → B) : (x < y → A) ∧ (¬ x < y → B) := by
  subst hx hy
  rw [zq_ltI ha hb]
  exact ⟨f, fun z => g (by omega)⟩
theorem zq_eq {x y : Int32} {A B : Prop} (a b : Int) (hx : x = zq_Z a) (hy : y = zq_Z b) (ha : zq_B a) (hb : zq_B b) (f : a = b → A) (g : a ≠ b → B) : (x = y → A) ∧ (¬ x = y → B) := by
  subst hx hy
  rw [zq_eqI ha hb]
  exact ⟨f, g⟩
def zq_cl (x lo hi : Int32) : Int32 := if lo ≤ x then (if x ≤ hi then x else hi) else lo
def zq_cz (x lo hi : Int) : Int := if lo ≤ x then (if x ≤ hi then x else hi) else lo
theorem zq_clZ {x lo hi : Int} (hx : zq_B x) (hl : zq_B lo) (hh : zq_B hi) : zq_cl (zq_Z x) (zq_Z lo) (zq_Z hi) = zq_Z (zq_cz x lo hi) := by
  unfold zq_cl zq_cz
  by_cases h1 : lo ≤ x
  · rw [if_pos h1, if_pos ((zq_leI hl hx).mpr h1)]
    by_cases h2 : x ≤ hi
    · rw [if_pos h2, if_pos ((zq_leI hx hh).mpr h2)]
    · rw [if_neg h2, if_neg (fun z => h2 ((zq_leI hx hh).mp z))]
  · rw [if_neg h1, if_neg (fun z => h1 ((zq_leI hl hx).mp z))]
theorem zq_clamped {post : Int32 → Prop} {x lo hi : Int32} (h : post (zq_cl x lo hi)) : wpX_clamped post () x lo hi := by
  unfold wpX_clamped
  unfold zq_cl at h
  refine br_c (fun h1 => ?_) (fun h1 => ?_)
  · rw [if_pos h1] at h
    refine br_c (fun h2 => ?_) (fun h2 => ?_)
    · rw [if_pos h2] at h
      exact h
    · rw [if_neg h2] at h
      exact h
  · rw [if_neg h1] at h
    exact h
theorem zq_cz_s (x lo hi : Int) (h : lo ≤ hi) : (x < lo ∧ zq_cz x lo hi = lo) ∨ (hi < x ∧ zq_cz x lo hi = hi) ∨ (lo ≤ x ∧ x ≤ hi ∧ zq_cz x lo hi = x) := by
  unfold zq_cz
  by_cases h1 : lo ≤ x
  · by_cases h2 : x ≤ hi
    · rw [if_pos h1, if_pos h2]
      exact Or.inr (Or.inr ⟨h1, h2, rfl⟩)
    · rw [if_pos h1, if_neg h2]
      exact Or.inr (Or.inl ⟨by omega, rfl⟩)
  · rw [if_neg h1]
    exact Or.inl ⟨by omega, rfl⟩
theorem zq_cz_in (x lo hi : Int) (h : lo ≤ hi) : lo ≤ zq_cz x lo hi ∧ zq_cz x lo hi ≤ hi := by
  rcases zq_cz_s x lo hi h with h1 | h1 | h1 <;> omega
theorem zq_cz_mono (x y lo hi : Int) (h : lo ≤ hi) (hxy : x ≤ y) : zq_cz x lo hi ≤ zq_cz y lo hi := by
  rcases zq_cz_s x lo hi h with h1 | h1 | h1 <;> rcases zq_cz_s y lo hi h with h2 | h2 | h2 <;> omega
theorem zq_cz_cz (x g f2 f3 g2 g3 : Int) (hf : f2 ≤ f3) (hg : g2 ≤ g3) : zq_cz (zq_cz x f2 f3 + g) g2 g3 = zq_cz (x + g) (zq_cz (f2 + g) g2 g3) (zq_cz (f3 + g) g2 g3) := by
  have hm := zq_cz_mono (f2 + g) (f3 + g) g2 g3 hg (by omega)
  have a1 := zq_cz_s x f2 f3 hf
  have a2 := zq_cz_s (zq_cz x f2 f3 + g) g2 g3 hg
  have a3 := zq_cz_s (f2 + g) g2 g3 hg
  have a4 := zq_cz_s (f3 + g) g2 g3 hg
  have a5 := zq_cz_s (x + g) (zq_cz (f2 + g) g2 g3) (zq_cz (f3 + g) g2 g3) hm
  generalize zq_cz (x + g) (zq_cz (f2 + g) g2 g3) (zq_cz (f3 + g) g2 g3) = r5 at *
  generalize zq_cz (zq_cz x f2 f3 + g) g2 g3 = r2 at *
  generalize zq_cz x f2 f3 = r1 at *
  generalize zq_cz (f2 + g) g2 g3 = r3 at *
  generalize zq_cz (f3 + g) g2 g3 = r4 at *
  rcases a1 with a1 | a1 | a1 <;> rcases a3 with a3 | a3 | a3 <;> rcases a4 with a4 | a4 | a4 <;> omega
def zq_comp (e f : Int × Int × Int) : Int × Int × Int := (e.1 + f.1, zq_cz (e.2.1 + f.1) f.2.1 f.2.2, zq_cz (e.2.2 + f.1) f.2.1 f.2.2)
def zq_ok (c : Int) (e : Int × Int × Int) : Prop := 0 ≤ e.2.1 ∧ e.2.1 ≤ e.2.2 ∧ e.2.2 ≤ c
theorem zq_ok_comp {c : Int} {e f : Int × Int × Int} (he : zq_ok c e) (hf : zq_ok c f) : zq_ok c (zq_comp e f) := by
  obtain ⟨e1, e2, e3⟩ := e
  obtain ⟨f1, f2, f3⟩ := f
  obtain ⟨h1, h2, h3⟩ := he
  obtain ⟨k1, k2, k3⟩ := hf
  dsimp only at h1 h2 h3 k1 k2 k3
  have b1 := zq_cz_in (e2 + f1) f2 f3 k2
  have b2 := zq_cz_in (e3 + f1) f2 f3 k2
  have b3 := zq_cz_mono (e2 + f1) (e3 + f1) f2 f3 k2 (by omega)
  refine ⟨?_, ?_, ?_⟩
  · show 0 ≤ zq_cz (e2 + f1) f2 f3
    omega
  · exact b3
  · show zq_cz (e3 + f1) f2 f3 ≤ c
    omega
theorem zq_assoc {c : Int} (e : Int × Int × Int) {f g : Int × Int × Int} (hf : zq_ok c f) (hg : zq_ok c g) : zq_comp (zq_comp e f) g = zq_comp e (zq_comp f g) := by
  obtain ⟨e1, e2, e3⟩ := e
  obtain ⟨f1, f2, f3⟩ := f
  obtain ⟨g1, g2, g3⟩ := g
  obtain ⟨h1, h2, h3⟩ := hf
  obtain ⟨k1, k2, k3⟩ := hg
  dsimp only at h1 h2 h3 k1 k2 k3
  unfold zq_comp
  dsimp only
  rw [zq_cz_cz (e2 + f1) g1 f2 f3 g2 g3 h2 k2, zq_cz_cz (e3 + f1) g1 f2 f3 g2 g3 h2 k2]
  rw [Int.add_assoc, Int.add_assoc e2, Int.add_assoc e3]
theorem zq_cz_id (x lo hi : Int) (h1 : lo ≤ x) (h2 : x ≤ hi) : zq_cz x lo hi = x := by
  unfold zq_cz
  rw [if_pos h1, if_pos h2]
theorem zq_cz_low (x lo hi : Int) (h1 : x ≤ lo) (h2 : lo ≤ hi) : zq_cz x lo hi = lo := by
  rcases zq_cz_s x lo hi h2 with h | h | h <;> omega
theorem zq_cz_high (x lo hi : Int) (h1 : hi ≤ x) (h2 : lo ≤ hi) : zq_cz x lo hi = hi := by
  rcases zq_cz_s x lo hi h2 with h | h | h <;> omega
theorem zq_idr {c : Int} {e : Int × Int × Int} (he : zq_ok c e) : zq_comp e (0, 0, c) = e := by
  obtain ⟨e1, e2, e3⟩ := e
  obtain ⟨h1, h2, h3⟩ := he
  dsimp only at h1 h2 h3
  unfold zq_comp
  dsimp only
  rw [zq_cz_id (e2 + 0) 0 c (by omega) (by omega), zq_cz_id (e3 + 0) 0 c (by omega) (by omega), Int.add_zero, Int.add_zero, Int.add_zero]
theorem zq_okid {c : Int} (hc : 0 ≤ c) : zq_ok c (0, 0, c) := ⟨Int.le_refl 0, hc, Int.le_refl c⟩
/-- one entry (kind, amount), a list of entries -/
def zq_ent (c : Int) (w : Nat × Int) : Int × Int × Int := if w.1 = 0 then (w.2, 0, c) else if w.1 = 1 then (0, w.2, c) else if w.1 = 2 then (0, 0, w.2) else (0, w.2, w.2)
def zq_val (c : Int) (w : Nat × Int) : Prop := w.1 ≤ 3 ∧ -7 ≤ w.2 ∧ w.2 ≤ 7 ∧ (w.1 = 0 ∨ (0 ≤ w.2 ∧ w.2 ≤ c))
theorem zq_entok {c : Int} {w : Nat × Int} (hc : 0 ≤ c) (h : zq_val c w) : zq_ok c (zq_ent c w) ∧ -7 ≤ (zq_ent c w).1 ∧ (zq_ent c w).1 ≤ 7 := by
  obtain ⟨k, m⟩ := w
  obtain ⟨h1, h2, h3, h4⟩ := h
  dsimp only at h1 h2 h3 h4
  unfold zq_ent zq_ok
  dsimp only
  by_cases k0 : k = 0
  · rw [if_pos k0]
    dsimp only
    omega
  · rw [if_neg k0]
    by_cases k1 : k = 1
    · rw [if_pos k1]
      dsimp only
      omega
    · rw [if_neg k1]
      by_cases k2 : k = 2
      · rw [if_pos k2]
        dsimp only
        omega
      · rw [if_neg k2]
        dsimp only
        omega
def zq_fo (c : Int) (W : Nat → Nat × Int) (a : Int × Int × Int) (s : List Nat) : Int × Int × Int := s.foldl (fun b x => zq_comp b (zq_ent c (W x))) a
def zq_eff (c : Int) (W : Nat → Nat × Int) (s : List Nat) : Int × Int × Int := zq_fo c W (0, 0, c) s
theorem zq_fo_ok {c : Int} {W : Nat → Nat × Int} (hc : 0 ≤ c) (hW : ∀ x, zq_val c (W x)) : ∀ (s : List Nat) (a : Int × Int × Int), zq_ok c a → zq_ok c (zq_fo c W a s) ∧ a.1 - 7 * (s.length : Int) ≤ (zq_fo c W a s).1 ∧ (zq_fo c W a s).1 ≤ a.1 + 7 * (s.length : Int) := by
  intro s
  induction s with
  | nil =>
    intro a ha
    refine ⟨ha, ?_, ?_⟩
    · show a.1 - 7 * ((0 : Nat) : Int) ≤ a.1
      omega
    · show a.1 ≤ a.1 + 7 * ((0 : Nat) : Int)
      omega
  | cons x s ih =>
    intro a ha
    obtain ⟨e1, e2, e3⟩ := zq_entok hc (hW x)
    obtain ⟨i1, i2, i3⟩ := ih (zq_comp a (zq_ent c (W x))) (zq_ok_comp ha e1)
    have d : (zq_comp a (zq_ent c (W x))).1 = a.1 + (zq_ent c (W x)).1 := rfl
    rw [d] at i2 i3
    have l : ((x :: s).length : Int) = (s.length : Int) + 1 := rfl
    refine ⟨i1, ?_, ?_⟩
    · show a.1 - 7 * ((x :: s).length : Int) ≤ (zq_fo c W (zq_comp a (zq_ent c (W x))) s).1
      rw [l]
      omega
    · show (zq_fo c W (zq_comp a (zq_ent c (W x))) s).1 ≤ a.1 + 7 * ((x :: s).length : Int)
      rw [l]
      omega
theorem zq_effok {c : Int} {W : Nat → Nat × Int} (hc : 0 ≤ c) (hW : ∀ x, zq_val c (W x)) (s : List Nat) : zq_ok c (zq_eff c W s) ∧ - (7 * (s.length : Int)) ≤ (zq_eff c W s).1 ∧ (zq_eff c W s).1 ≤ 7 * (s.length : Int) := by
  obtain ⟨h1, h2, h3⟩ := zq_fo_ok hc hW s (0, 0, c) (zq_okid hc)
  refine ⟨h1, ?_, ?_⟩
  · have h : (0 : Int) - 7 * (s.length : Int) ≤ (zq_eff c W s).1 := h2
    omega
  · have h : (zq_eff c W s).1 ≤ (0 : Int) + 7 * (s.length : Int) := h3
    omega
theorem zq_fold {c : Int} {W : Nat → Nat × Int} (hc : 0 ≤ c) (hW : ∀ x, zq_val c (W x)) : ∀ (s : List Nat) (a : Int × Int × Int), zq_ok c a → zq_fo c W a s = zq_comp a (zq_eff c W s) := by
  intro s
  induction s with
  | nil =>
    intro a ha
    exact (zq_idr ha).symm
  | cons x s ih =>
    intro a ha
    have e := (zq_entok hc (hW x)).1
    have o := zq_okid hc
    have s1 : zq_fo c W a (x :: s) = zq_fo c W (zq_comp a (zq_ent c (W x))) s := rfl
    have s2 : zq_eff c W (x :: s) = zq_fo c W (zq_comp (0, 0, c) (zq_ent c (W x))) s := rfl
    rw [s1, s2, ih _ (zq_ok_comp ha e), ih _ (zq_ok_comp o e), ← zq_assoc a (zq_ok_comp o e) (zq_effok hc hW s).1, ← zq_assoc a o e, zq_idr ha]
theorem zq_node {c : Int} {W : Nat → Nat × Int} (hc : 0 ≤ c) (hW : ∀ x, zq_val c (W x)) (s t : List Nat) (x : Nat) : zq_comp (zq_comp (zq_comp (0, 0, c) (zq_eff c W s)) (zq_ent c (W x))) (zq_eff c W t) = zq_eff c W (s ++ x :: t) := by
  have o := zq_okid hc
  rw [← zq_fold hc hW s _ o]
  have e := (zq_entok hc (hW x)).1
  have k : zq_ok c (zq_fo c W (0, 0, c) s) := (zq_effok hc hW s).1
  rw [← zq_fold hc hW t _ (zq_ok_comp k e)]
  unfold zq_eff zq_fo
  rw [List.foldl_append, List.foldl_cons]
def zq_net (W : Nat → Nat × Int) : List Nat → Int
  | [] => 0
  | x :: s => (if (W x).1 = 0 then (W x).2 else 0) + zq_net W s
theorem zq_net_app (W : Nat → Nat × Int) (s t : List Nat) (x : Nat) : zq_net W (s ++ x :: t) = zq_net W s + zq_net W t + (if (W x).1 = 0 then (W x).2 else 0) := by
  induction s with
  | nil =>
    show (if (W x).1 = 0 then (W x).2 else 0) + zq_net W t = 0 + zq_net W t + (if (W x).1 = 0 then (W x).2 else 0)
    omega
  | cons y s ih =>
    show (if (W y).1 = 0 then (W y).2 else 0) + zq_net W (s ++ x :: t) = (if (W y).1 = 0 then (W y).2 else 0) + zq_net W s + zq_net W t + (if (W x).1 = 0 then (W x).2 else 0)
    rw [ih]
    omega
/-- triples of Int32 -/
def zq_th (e f : Int32 × Int32 × Int32) : Int32 × Int32 × Int32 := (e.1 + f.1, zq_cl (e.2.1 + f.1) f.2.1 f.2.2, zq_cl (e.2.2 + f.1) f.2.1 f.2.2)
def zq_cd (e : Int × Int × Int) : Int32 × Int32 × Int32 := (zq_Z e.1, zq_Z e.2.1, zq_Z e.2.2)
def zq_en (cp k m : Int32) : Int32 × Int32 × Int32 := if k = 0 then (m, 0, cp) else if k = 1 then (0, m, cp) else if k = 2 then (0, 0, m) else (0, m, m)
theorem zq_thcd {e f : Int × Int × Int} (h1 : -1000 ≤ e.1 ∧ e.1 ≤ 1000) (h2 : -1000 ≤ e.2.1 ∧ e.2.1 ≤ 1000) (h3 : -1000 ≤ e.2.2 ∧ e.2.2 ≤ 1000) (k1 : -1000 ≤ f.1 ∧ f.1 ≤ 1000) (k2 : -1000 ≤ f.2.1 ∧ f.2.1 ≤ 1000) (k3 : -1000 ≤ f.2.2 ∧ f.2.2 ≤ 1000) : zq_th (zq_cd e) (zq_cd f) = zq_cd (zq_comp e f) := by
  obtain ⟨e1, e2, e3⟩ := e
  obtain ⟨f1, f2, f3⟩ := f
  dsimp only at h1 h2 h3 k1 k2 k3
  unfold zq_th zq_cd zq_comp
  dsimp only
  have b2 : zq_B f2 := ⟨by omega, by omega⟩
  have b3 : zq_B f3 := ⟨by omega, by omega⟩
  rw [zq_add, zq_add, zq_add, zq_clZ ⟨by omega, by omega⟩ b2 b3, zq_clZ ⟨by omega, by omega⟩ b2 b3]
theorem zq_encd {c : Nat} {w : Nat × Int} (h : w.1 ≤ 3) : zq_en (nI c) (nI w.1) (zq_Z w.2) = zq_cd (zq_ent (c : Int) w) := by
  obtain ⟨k, m⟩ := w
  dsimp only at h ⊢
  have hk : k = 0 ∨ k = 1 ∨ k = 2 ∨ k = 3 := by omega
  unfold zq_en zq_ent zq_cd
  dsimp only
  rw [zq_nI c]
  rcases hk with rfl | rfl | rfl | rfl
  · rw [if_pos (show nI 0 = 0 by rfl), if_pos rfl]
    rfl
  · rw [if_neg (show ¬ nI 1 = 0 by decide), if_pos (show nI 1 = 1 by rfl), if_neg (by decide), if_pos rfl]
    rfl
  · rw [if_neg (show ¬ nI 2 = 0 by decide), if_neg (show ¬ nI 2 = 1 by decide), if_pos (show nI 2 = 2 by rfl), if_neg (by decide), if_neg (by decide), if_pos rfl]
    rfl
  · rw [if_neg (show ¬ nI 3 = 0 by decide), if_neg (show ¬ nI 3 = 1 by decide), if_neg (show ¬ nI 3 = 2 by decide), if_neg (by decide), if_neg (by decide), if_neg (by decide)]
    rfl
def zq_nd (cp k m : Int32) (e f : Int32 × Int32 × Int32) : Int32 × Int32 × Int32 := zq_th (zq_th (zq_th (0, 0, cp) e) (zq_en cp k m)) f
theorem zq_ndcd {c : Nat} {W : Nat → Nat × Int} (hc : c ≤ 7) (hW : ∀ x, zq_val (c : Int) (W x)) (s t : List Nat) (x : Nat) (hs : s.length ≤ 20) (ht : t.length ≤ 20) : zq_nd (nI c) (nI (W x).1) (zq_Z (W x).2) (zq_cd (zq_eff c W s)) (zq_cd (zq_eff c W t)) = zq_cd (zq_eff c W (s ++ x :: t)) := by
  have c0 : (0 : Int) ≤ (c : Int) := by omega
  obtain ⟨s1, s2, s3⟩ := zq_effok c0 hW s
  obtain ⟨t1, t2, t3⟩ := zq_effok c0 hW t
  obtain ⟨e1, e2, e3⟩ := zq_entok c0 (hW x)
  have o := zq_okid c0
  have p1 := zq_ok_comp o s1
  have p2 := zq_ok_comp p1 e1
  have d1 : (zq_comp (0, 0, (c : Int)) (zq_eff c W s)).1 = 0 + (zq_eff c W s).1 := rfl
  have d2 : (zq_comp (zq_comp (0, 0, (c : Int)) (zq_eff c W s)) (zq_ent c (W x))).1 = 0 + (zq_eff c W s).1 + (zq_ent c (W x)).1 := rfl
  rw [← zq_node c0 hW s t x]
  unfold zq_nd
  rw [zq_encd (hW x).1, show ((0 : Int32), (0 : Int32), nI c) = zq_cd (0, 0, (c : Int)) from by rw [zq_nI]; rfl]
  obtain ⟨s4, s5, s6⟩ := s1
  obtain ⟨t4, t5, t6⟩ := t1
  obtain ⟨e4, e5, e6⟩ := e1
  obtain ⟨q1, q2, q3⟩ := p1
  obtain ⟨r1, r2, r3⟩ := p2
  rw [zq_thcd (by dsimp only; omega) (by dsimp only; omega) (by dsimp only; omega) (by omega) (by omega) (by omega)]
  rw [zq_thcd (by omega) (by omega) (by omega) (by omega) (by omega) (by omega)]
  rw [zq_thcd (by omega) (by omega) (by omega) (by omega) (by omega) (by omega)]
end
section
/-! the picture of the tree, the relation to a state, pull -/
abbrev zq_T : Type := (Nat → Nat) × (Nat → Nat) × (Nat → Nat) × (Nat → Nat) × (Nat → Nat) × (Nat → List Nat) × Nat × Nat × Nat
def zq_up {α : Type} (f : Nat → α) (k : Nat) (v : α) : Nat → α := fun j => if j = k then v else f j
theorem zq_up_s {α : Type} {f : Nat → α} {k : Nat} {v : α} : zq_up f k v k = v := if_pos rfl
theorem zq_up_n {α : Type} {f : Nat → α} {k j : Nat} {v : α} (h : j ≠ k) : zq_up f k v j = f j := if_neg h
def zq_A (a : Nat → Int32) (f : Nat → Nat) : Prop := ∀ i, i < 7 → a i = nI (f i)
def zq_G (f : Nat → Nat) : Prop := ∀ i, i < 7 → f i < 7
def zq_N (W : Nat → Nat × Int) (I : Nat → Nat) (a5 a6 : Nat → Int32) : Prop := ∀ i, i < 7 → a5 i = nI (W (I i)).1 ∧ a6 i = zq_Z (W (I i)).2
def zq_E (c : Nat) (W : Nat → Nat × Int) (S : Nat → List Nat) (a4 a12 a13 a14 a15 : Nat → Int32) : Prop := ∀ i, i < 7 → a4 i = nI (S i).length ∧ a12 i = zq_Z (zq_net W (S i)) ∧ ((S i).length ≤ 20 → (a13 (i * 4 + 2), a14 (i * 4 + 2), a15 (i * 4 + 2)) = zq_cd (zq_eff c W (S i)))
def zq_K (a7 a8 a16 : Nat → Int32) : Prop := (∀ i, i < 7 → a7 i = 0 ∧ a8 i = 0) ∧ (∀ i, i < 40 → a16 i = nI (42 - i))
def zq_C (c : Nat) (W : Nat → Nat × Int) : Prop := 4 ≤ c ∧ c ≤ 7 ∧ ∀ x, zq_val (c : Int) (W x)
def zq_F (c r0 e0 tp : Nat) (sp rt en cp rm : Int32) : Prop := sp = nI (42 - tp) ∧ rt = nI r0 ∧ en = nI e0 ∧ cp = nI c ∧ rm = nI 10 ∧ r0 < 7 ∧ 2 ≤ tp ∧ tp ≤ 6 ∧ e0 ≤ 10
def zq_R (c : Nat) (W : Nat → Nat × Int) (t : zq_T) (u : St2) : Prop := match t, u with
  | (L, R, U, V, I, S, r0, e0, tp), (sp, rt, en, cp, rm, xA, xL, xH, a1, a2, a3, a4, a5, a6, a7, a8, a9, a10, a11, a12, a13, a14, a15, a16, a17, a18, a19) => zq_C c W ∧ zq_F c r0 e0 tp sp rt en cp rm ∧ zq_A a1 L ∧ zq_A a2 R ∧ zq_A a3 U ∧ zq_A a9 V ∧ zq_G L ∧ zq_G R ∧ zq_G U ∧ zq_N W I a5 a6 ∧ zq_E c W S a4 a12 a13 a14 a15 ∧ zq_K a7 a8 a16
theorem zq_Rmk {c : Nat} {W : Nat → Nat × Int} {L R U V I : Nat → Nat} {S : Nat → List Nat} {r0 e0 tp : Nat} {sp rt en cp rm xA xL xH : Int32} {a1 a2 a3 a4 a5 a6 a7 a8 a9 a10 a11 a12 a13 a14 a15 a16 a17 a18 a19 : Nat → Int32} (hC : zq_C c W) (hF : zq_F c r0 e0 tp sp rt en cp rm) (h1 : zq_A a1 L) (h2 : zq_A a2 R) (h3 : zq_A a3 U) (h9 : zq_A a9 V) (g1 : zq_G L) (g2 : zq_G R) (g3 : zq_G U) (hN : zq_N W I a5 a6) (hE : zq_E c W S a4 a12 a13 a14 a15) (hK : zq_K a7 a8 a16) : zq_R c W (L, R, U, V, I, S, r0, e0, tp) (sp, rt, en, cp, rm, xA, xL, xH, a1, a2, a3, a4, a5, a6, a7, a8, a9, a10, a11, a12, a13, a14, a15, a16, a17, a18, a19) := And.intro hC (And.intro hF (And.intro h1 (And.intro h2 (And.intro h3 (And.intro h9 (And.intro g1 (And.intro g2 (And.intro g3 (And.intro hN (And.intro hE hK))))))))))
theorem zq_Rel {c : Nat} {W : Nat → Nat × Int} {L R U V I : Nat → Nat} {S : Nat → List Nat} {r0 e0 tp : Nat} {sp rt en cp rm xA xL xH : Int32} {a1 a2 a3 a4 a5 a6 a7 a8 a9 a10 a11 a12 a13 a14 a15 a16 a17 a18 a19 : Nat → Int32} (h : zq_R c W (L, R, U, V, I, S, r0, e0, tp) (sp, rt, en, cp, rm, xA, xL, xH, a1, a2, a3, a4, a5, a6, a7, a8, a9, a10, a11, a12, a13, a14, a15, a16, a17, a18, a19)) : zq_C c W ∧ zq_F c r0 e0 tp sp rt en cp rm ∧ zq_A a1 L ∧ zq_A a2 R ∧ zq_A a3 U ∧ zq_A a9 V ∧ zq_G L ∧ zq_G R ∧ zq_G U ∧ zq_N W I a5 a6 ∧ zq_E c W S a4 a12 a13 a14 a15 ∧ zq_K a7 a8 a16 := h
theorem zq_Au {a : Nat → Int32} {f : Nat → Nat} {k v : Nat} {x : Int32} (h : zq_A a f) (hx : x = nI v) : zq_A (upd a k x) (zq_up f k v) := by
  intro i hi
  by_cases e : i = k
  · rw [e, pk_us, zq_up_s]
    exact hx
  · rw [pk_un e, zq_up_n e]
    exact h i hi
theorem zq_Gu {f : Nat → Nat} {k v : Nat} (h : zq_G f) (hv : v < 7) : zq_G (zq_up f k v) := by
  intro i hi
  by_cases e : i = k
  · rw [e, zq_up_s]
    exact hv
  · rw [zq_up_n e]
    exact h i hi
theorem zq_ix (n v : Nat) : nI n * 4 + nI v = nI (n * 4 + v) := by
  rw [show (4 : Int32) = nI 4 from rfl, pk_mul, nI_add]
theorem zq_br2 {c d A B : Prop} (hd : d) (a : A) : (c → A) ∧ (¬ c → ((d → A) ∧ (¬ d → B))) := ⟨fun _ => a, fun _ => ⟨fun _ => a, fun z => absurd hd z⟩⟩
theorem zq_wthen {post : St2 → Prop} {sp rt en cp rm xA xL xH : Int32} {a1 a2 a3 a4 a5 a6 a7 a8 a9 a10 a11 a12 a13 a14 a15 a16 a17 a18 a19 : Nat → Int32} {p0 p1 p2 : Int32} (h : post (sp, rt, en, cp, rm, xA + p0, zq_cl (xL + p0) p1 p2, zq_cl (xH + p0) p1 p2, a1, a2, a3, a4, a5, a6, a7, a8, a9, a10, a11, a12, a13, a14, a15, a16, a17, a18, a19)) : wpX_thenEffect post (sp, rt, en, cp, rm, xA, xL, xH, a1, a2, a3, a4, a5, a6, a7, a8, a9, a10, a11, a12, a13, a14, a15, a16, a17, a18, a19) p0 p1 p2 := by
  unfold wpX_thenEffect
  exact zq_clamped (zq_clamped (nm_e h))
theorem zq_wstart {post : St2 → Prop} {sp rt en cp rm xA xL xH : Int32} {a1 a2 a3 a4 a5 a6 a7 a8 a9 a10 a11 a12 a13 a14 a15 a16 a17 a18 a19 : Nat → Int32} (h : post (sp, rt, en, cp, rm, 0, 0, cp, a1, a2, a3, a4, a5, a6, a7, a8, a9, a10, a11, a12, a13, a14, a15, a16, a17, a18, a19)) : wpX_startEffect post (sp, rt, en, cp, rm, xA, xL, xH, a1, a2, a3, a4, a5, a6, a7, a8, a9, a10, a11, a12, a13, a14, a15, a16, a17, a18, a19) := h
theorem zq_went {post : St2 → Prop} {sp rt en cp rm xA xL xH : Int32} {a1 a2 a3 a4 a5 a6 a7 a8 a9 a10 a11 a12 a13 a14 a15 a16 a17 a18 a19 : Nat → Int32} {n : Nat} (hn : n < 7) (h : post (sp, rt, en, cp, rm, xA + (zq_en cp (a5 n) (a6 n)).1, zq_cl (xL + (zq_en cp (a5 n) (a6 n)).1) (zq_en cp (a5 n) (a6 n)).2.1 (zq_en cp (a5 n) (a6 n)).2.2, zq_cl (xH + (zq_en cp (a5 n) (a6 n)).1) (zq_en cp (a5 n) (a6 n)).2.1 (zq_en cp (a5 n) (a6 n)).2.2, a1, a2, a3, a4, a5, a6, a7, a8, a9, a10, a11, a12, a13, a14, a15, a16, a17, a18, a19)) : wpX_thenEntry post (sp, rt, en, cp, rm, xA, xL, xH, a1, a2, a3, a4, a5, a6, a7, a8, a9, a10, a11, a12, a13, a14, a15, a16, a17, a18, a19) (nI n) := by
  have cn : (nI n).toNatClampNeg = n := nI_clamp (by omega)
  unfold wpX_thenEntry
  rw [cn]
  refine ⟨pk_in n 43 (by omega), nm_e ⟨pk_in n 43 (by omega), br_c (fun k0 => ?_) (fun k0 => ⟨pk_in n 43 (by omega), br_c (fun k1 => ?_) (fun k1 => ⟨pk_in n 43 (by omega), br_c (fun k2 => ?_) (fun k2 => ?_)⟩)⟩)⟩⟩
  · have e : zq_en cp (a5 n) (a6 n) = (a6 n, 0, cp) := by
      unfold zq_en
      rw [if_pos k0]
    rw [e] at h
    exact zq_wthen h
  · have e : zq_en cp (a5 n) (a6 n) = (0, a6 n, cp) := by
      unfold zq_en
      rw [if_neg k0, if_pos k1]
    rw [e] at h
    exact zq_wthen h
  · have e : zq_en cp (a5 n) (a6 n) = (0, 0, a6 n) := by
      unfold zq_en
      rw [if_neg k0, if_neg k1, if_pos k2]
    rw [e] at h
    exact zq_wthen h
  · have e : zq_en cp (a5 n) (a6 n) = (0, a6 n, a6 n) := by
      unfold zq_en
      rw [if_neg k0, if_neg k1, if_neg k2]
    rw [e] at h
    exact zq_wthen h
theorem zq_p197 {post : St2 → Prop} {J : Int32 → Int32 → Int32 → Int32 → Int32 → Int32 → Int32 → Int32 → Int32 → (Nat → Int32) → (Nat → Int32) → (Nat → Int32) → (Nat → Int32) → (Nat → Int32) → (Nat → Int32) → (Nat → Int32) → (Nat → Int32) → (Nat → Int32) → (Nat → Int32) → (Nat → Int32) → (Nat → Int32) → (Nat → Int32) → (Nat → Int32) → (Nat → Int32) → (Nat → Int32) → (Nat → Int32) → (Nat → Int32) → (Nat → Int32) → Prop} {sp rt en cp rm xA xL xH : Int32} {a1 a2 a3 a4 a5 a6 a7 a8 a9 a10 a11 a12 a13 a14 a15 a16 a17 a18 a19 : Nat → Int32} {n f l v : Nat} {x2 x3 : Int32} (hn : n < 7) (hf : f < 7) (hl : l < 7) (hv : v < 4)
    (h : ∀ t : Int32 × Int32 × Int32, t = zq_nd cp (a5 n) (a6 n) (a13 (f * 4 + v), a14 (f * 4 + v), a15 (f * 4 + v)) (a13 (l * 4 + v), a14 (l * 4 + v), a15 (l * 4 + v)) → J (nI (v + 1)) sp rt en cp rm t.1 t.2.1 t.2.2 a1 a2 a3 a4 a5 a6 a7 a8 a9 a10 a11 a12 (upd a13 (n * 4 + v) t.1) (upd a14 (n * 4 + v) t.2.1) (upd a15 (n * 4 + v) t.2.2) a16 a17 a18 a19) :
    wX_pull_197 post J (nI n) x2 x3 0 (nI v) (nI (f * 4 + v)) (nI l) sp rt en cp rm xA xL xH a1 a2 a3 a4 a5 a6 a7 a8 a9 a10 a11 a12 a13 a14 a15 a16 a17 a18 a19 := by
  have c1 : (nI (f * 4 + v)).toNatClampNeg = f * 4 + v := nI_clamp (by omega)
  have c2 : (nI (l * 4 + v)).toNatClampNeg = l * 4 + v := nI_clamp (by omega)
  have c3 : (nI (n * 4 + v)).toNatClampNeg = n * 4 + v := nI_clamp (by omega)
  have H := h _ rfl
  unfold wX_pull_197
  refine nm_r (zq_ix l v) (zq_wstart ?_)
  dsimp only
  rw [c1]
  refine ⟨pk_in (f * 4 + v) 172 (by omega), pk_in (f * 4 + v) 172 (by omega), pk_in (f * 4 + v) 172 (by omega), zq_wthen ?_⟩
  dsimp only
  refine zq_br2 rfl ?_
  unfold wX_pull_244
  refine zq_went hn ?_
  dsimp only
  unfold wX_pull_249
  rw [zq_ix, c2, c3]
  refine ⟨pk_in (l * 4 + v) 172 (by omega), pk_in (l * 4 + v) 172 (by omega), pk_in (l * 4 + v) 172 (by omega), zq_wthen ?_⟩
  dsimp only
  exact ⟨pk_in (n * 4 + v) 172 (by omega), nm_e ⟨pk_in (n * 4 + v) 172 (by omega), nm_e ⟨pk_in (n * 4 + v) 172 (by omega), nm_e (nm_r (nI_1 v) H)⟩⟩⟩
theorem zq_p150 {post : St2 → Prop} {sp rt en cp rm xA xL xH : Int32} {a1 a2 a3 a4 a5 a6 a7 a8 a9 a10 a11 a12 a13 a14 a15 a16 a17 a18 a19 : Nat → Int32} {n l r v k : Nat} (hn : n < 7) (hl : l < 7) (hr : r < 7) (hv : v < 4)
    (h : ∀ t : Int32 × Int32 × Int32, (v = 2 → t = zq_nd cp (a5 n) (a6 n) (a13 (l * 4 + 2), a14 (l * 4 + 2), a15 (l * 4 + 2)) (a13 (r * 4 + 2), a14 (r * 4 + 2), a15 (r * 4 + 2))) → wX_pull_150 post (nI n) (nI l) (nI r) 0 k (nI (v + 1)) sp rt en cp rm t.1 t.2.1 t.2.2 a1 a2 a3 a4 a5 a6 a7 a8 a9 a10 a11 a12 (upd a13 (n * 4 + v) t.1) (upd a14 (n * 4 + v) t.2.1) (upd a15 (n * 4 + v) t.2.2) a16 a17 a18 a19) :
    wX_pull_150 post (nI n) (nI l) (nI r) 0 (k + 1) (nI v) sp rt en cp rm xA xL xH a1 a2 a3 a4 a5 a6 a7 a8 a9 a10 a11 a12 a13 a14 a15 a16 a17 a18 a19 := by
  refine pk_le 4 v (fun z => absurd z (by omega)) (fun _ => ?_)
  have hv' : v = 0 ∨ v = 1 ∨ v = 2 ∨ v = 3 := by omega
  rcases hv' with rfl | rfl | rfl | rfl
  · refine br_t (by decide) ?_
    unfold wX_pull_168
    refine br_f (by decide) ?_
    unfold wX_pull_180
    refine nm_r (zq_ix l 0) (br_f (by decide) ?_)
    exact zq_p197 hn hl hr hv (fun t _ => h t (fun z => absurd z (by decide)))
  · refine br_f (by decide) ?_
    unfold wX_pull_168
    refine br_t (by decide) ?_
    unfold wX_pull_180
    refine nm_r (zq_ix r 1) (br_t (by decide) ?_)
    exact zq_p197 hn hr hl hv (fun t _ => h t (fun z => absurd z (by decide)))
  · refine br_t (by decide) ?_
    unfold wX_pull_168
    refine br_f (by decide) ?_
    unfold wX_pull_180
    refine nm_r (zq_ix l 2) (br_f (by decide) ?_)
    exact zq_p197 hn hl hr hv (fun t ht => h t (fun _ => ht))
  · refine br_f (by decide) ?_
    unfold wX_pull_168
    refine br_t (by decide) ?_
    unfold wX_pull_180
    refine nm_r (zq_ix r 3) (br_t (by decide) ?_)
    exact zq_p197 hn hr hl hv (fun t _ => h t (fun z => absurd z (by decide)))
theorem zq_4o {a : Nat → Int32} {n i : Nat} {x0 x1 x2 x3 : Int32} (h : i ≠ n) : upd (upd (upd (upd a (n * 4 + 0) x0) (n * 4 + 1) x1) (n * 4 + 2) x2) (n * 4 + 3) x3 (i * 4 + 2) = a (i * 4 + 2) := by
  rw [pk_un (by omega), pk_un (by omega), pk_un (by omega), pk_un (by omega)]
theorem zq_4s {a : Nat → Int32} {n : Nat} {x0 x1 x2 x3 : Int32} : upd (upd (upd (upd a (n * 4 + 0) x0) (n * 4 + 1) x1) (n * 4 + 2) x2) (n * 4 + 3) x3 (n * 4 + 2) = x2 := by
  rw [pk_un (by omega), pk_us]
theorem zq_2o {a : Nat → Int32} {n i : Nat} {x0 x1 : Int32} : upd (upd a (n * 4 + 0) x0) (n * 4 + 1) x1 (i * 4 + 2) = a (i * 4 + 2) := by
  rw [pk_un (by omega), pk_un (by omega)]
theorem zq_ploop {post : St2 → Prop} {sp rt en cp rm xA xL xH : Int32} {a1 a2 a3 a4 a5 a6 a7 a8 a9 a10 a11 a12 a13 a14 a15 a16 a17 a18 a19 : Nat → Int32} {n l r : Nat} (hn : n < 7) (hl : l < 7) (hr : r < 7)
    (hp : ∀ (yA yL yH : Int32) (b13 b14 b15 : Nat → Int32), (∀ i, i ≠ n → b13 (i * 4 + 2) = a13 (i * 4 + 2) ∧ b14 (i * 4 + 2) = a14 (i * 4 + 2) ∧ b15 (i * 4 + 2) = a15 (i * 4 + 2)) → (b13 (n * 4 + 2), b14 (n * 4 + 2), b15 (n * 4 + 2)) = zq_nd cp (a5 n) (a6 n) (a13 (l * 4 + 2), a14 (l * 4 + 2), a15 (l * 4 + 2)) (a13 (r * 4 + 2), a14 (r * 4 + 2), a15 (r * 4 + 2)) → post (sp, rt, en, cp, rm, yA, yL, yH, a1, a2, a3, a4, a5, a6, a7, a8, a9, a10, a11, a12, b13, b14, b15, a16, a17, a18, a19)) :
    ∃ fu, wX_pull_150 post (nI n) (nI l) (nI r) 0 fu 0 sp rt en cp rm xA xL xH a1 a2 a3 a4 a5 a6 a7 a8 a9 a10 a11 a12 a13 a14 a15 a16 a17 a18 a19 := by
  refine ⟨5, ?_⟩
  show wX_pull_150 post (nI n) (nI l) (nI r) 0 5 (nI 0) sp rt en cp rm xA xL xH a1 a2 a3 a4 a5 a6 a7 a8 a9 a10 a11 a12 a13 a14 a15 a16 a17 a18 a19
  refine zq_p150 hn hl hr (by decide) (fun t0 _ => zq_p150 hn hl hr (by decide) (fun t1 _ => zq_p150 hn hl hr (by decide) (fun t2 h2 => zq_p150 hn hl hr (by decide) (fun t3 _ => ?_))))
  refine pk_le 4 4 (fun _ => ?_) (fun z => absurd z (by decide))
  refine hp _ _ _ _ _ _ (fun i hi => ⟨zq_4o hi, zq_4o hi, zq_4o hi⟩) ?_
  have e2 := h2 rfl
  rw [zq_2o, zq_2o, zq_2o, zq_2o, zq_2o, zq_2o] at e2
  show (upd (upd (upd (upd a13 (n * 4 + 0) t0.1) (n * 4 + 1) t1.1) (n * 4 + 2) t2.1) (n * 4 + 3) t3.1 (n * 4 + 2), upd (upd (upd (upd a14 (n * 4 + 0) t0.2.1) (n * 4 + 1) t1.2.1) (n * 4 + 2) t2.2.1) (n * 4 + 3) t3.2.1 (n * 4 + 2), upd (upd (upd (upd a15 (n * 4 + 0) t0.2.2) (n * 4 + 1) t1.2.2) (n * 4 + 2) t2.2.2) (n * 4 + 3) t3.2.2 (n * 4 + 2)) = _
  rw [zq_4s, zq_4s, zq_4s]
  exact e2
def zq_pull (t : zq_T) (n : Nat) : zq_T := match t with
  | (L, R, U, V, I, S, r0, e0, tp) => (L, R, U, V, I, zq_up S n (S (L n) ++ I n :: S (R n)), r0, e0, tp)
theorem zq_w33 {post : St2 → Prop} {c : Nat} {W : Nat → Nat × Int} {L R U V I : Nat → Nat} {S : Nat → List Nat} {r0 e0 tp : Nat} {sp rt en cp rm xA xL xH : Int32} {a1 a2 a3 a4 a5 a6 a7 a8 a9 a10 a11 a12 a13 a14 a15 a16 a17 a18 a19 : Nat → Int32} {n : Nat} {z : Int32} (hn : n < 7) (h : zq_R c W (L, R, U, V, I, S, r0, e0, tp) (sp, rt, en, cp, rm, xA, xL, xH, a1, a2, a3, a4, a5, a6, a7, a8, a9, a10, a11, a12, a13, a14, a15, a16, a17, a18, a19)) (hz : z = zq_Z (if (W (I n)).1 = 0 then (W (I n)).2 else 0))
    (hp : ∀ u, zq_R c W (zq_pull (L, R, U, V, I, S, r0, e0, tp) n) u → post u) : wX_pull_33 post (nI n) (nI (L n)) (nI (R n)) z sp rt en cp rm xA xL xH a1 a2 a3 a4 a5 a6 a7 a8 a9 a10 a11 a12 a13 a14 a15 a16 a17 a18 a19 := by
  obtain ⟨hC, hF, h1, h2, h3, h9, g1, g2, g3, hN, hE, hK⟩ := zq_Rel h
  have gl := g1 n hn
  have gr := g2 n hn
  have cn : (nI n).toNatClampNeg = n := nI_clamp (by omega)
  have cl : (nI (L n)).toNatClampNeg = L n := nI_clamp (by omega)
  have cr : (nI (R n)).toNatClampNeg = R n := nI_clamp (by omega)
  have in1 : vp_in (nI n) 43 := pk_in n 43 (by omega)
  have in2 : vp_in (nI (L n)) 43 := pk_in (L n) 43 (by omega)
  have in3 : vp_in (nI (R n)) 43 := pk_in (R n) 43 (by omega)
  unfold wX_pull_33
  rw [cn, cl, cr]
  refine ⟨in1, nm_r (hK.1 n hn).1 ⟨in2, in3, in1, nm_e ⟨in2, in3, br_t rfl ?_⟩⟩⟩
  unfold wX_pull_92
  rw [cn, cl, cr]
  refine ⟨in1, nm_e ⟨in2, in3, in1, nm_e ⟨in2, in3, br_t rfl ⟨in1, nm_e ?_⟩⟩⟩⟩
  refine zq_ploop hn gl gr (fun yA yL yH b13 b14 b15 hb hbn => hp _ ?_)
  refine zq_Rmk hC hF h1 h2 h3 h9 g1 g2 g3 hN ?_ hK
  intro i hi
  by_cases e : i = n
  · rw [e, pk_us, pk_us, zq_up_s]
    obtain ⟨l1, l2, l3⟩ := hE (L n) gl
    obtain ⟨r1, r2, r3⟩ := hE (R n) gr
    obtain ⟨n5, n6⟩ := hN n hn
    refine ⟨?_, ?_, ?_⟩
    · rw [l1, r1, nI_add, nI_1, List.length_append, List.length_cons]
      rfl
    · rw [l2, r2, hz, zq_add, zq_add, zq_net_app]
    · intro hlen
      rw [List.length_append, List.length_cons] at hlen
      rw [hbn, l3 (by omega), r3 (by omega), n5, n6, hF.2.2.2.1]
      exact zq_ndcd hC.2.1 hC.2.2 _ _ _ (by omega) (by omega)
  · obtain ⟨i1, i2, i3⟩ := hE i hi
    obtain ⟨j1, j2, j3⟩ := hb i e
    rw [pk_un e, pk_un e, zq_up_n e, j1, j2, j3]
    exact ⟨i1, i2, i3⟩
theorem zq_wpull {post : St2 → Prop} {c : Nat} {W : Nat → Nat × Int} {t : zq_T} {u : St2} {n : Nat} (hn : n < 7) (h : zq_R c W t u) (hp : ∀ u', zq_R c W (zq_pull t n) u' → post u') : wpX_pull post u (nI n) := by
  obtain ⟨L, R, U, V, I, S, r0, e0, tp⟩ := t
  obtain ⟨sp, rt, en, cp, rm, xA, xL, xH, a1, a2, a3, a4, a5, a6, a7, a8, a9, a10, a11, a12, a13, a14, a15, a16, a17, a18, a19⟩ := u
  obtain ⟨hC, hF, h1, h2, h3, h9, g1, g2, g3, hN, hE, hK⟩ := zq_Rel h
  obtain ⟨n5, n6⟩ := hN n hn
  have cn : (nI n).toNatClampNeg = n := nI_clamp (by omega)
  have in1 : vp_in (nI n) 43 := pk_in n 43 (by omega)
  have w3 := (hC.2.2 (I n)).1
  unfold wpX_pull
  rw [cn]
  refine ⟨in1, nm_r (h1 n hn) ⟨in1, nm_r (h2 n hn) ⟨in1, br_c (fun k => ⟨in1, zq_w33 hn h ?_ hp⟩) (fun k => zq_w33 hn h ?_ hp)⟩⟩⟩
  · rw [n5, ← nI_0, nI_eq (by omega) (by omega)] at k
    rw [if_pos k]
    exact n6
  · rw [n5, ← nI_0, nI_eq (by omega) (by omega)] at k
    rw [if_neg k]
    rfl
end
section
/-! setUp, push, seek, rotate -/
def zq_set (t : zq_T) (n e : Nat) : zq_T := match t with
  | (L, R, U, V, I, S, r0, e0, tp) => zq_pull (zq_up L n 0, zq_up R n 0, zq_up U n 0, zq_up V n 2, zq_up I n e, S, r0, e0, tp) n
theorem zq_wset {post : St2 → Prop} {c : Nat} {W : Nat → Nat × Int} {t : zq_T} {u : St2} {n e : Nat} {k m : Int32} (hn : n < 7) (h : zq_R c W t u) (hk : k = nI (W e).1) (hm : m = zq_Z (W e).2)
    (hp : ∀ u', zq_R c W (zq_set t n e) u' → post u') : wpX_setUp post u (nI n) k m 0 := by
  obtain ⟨L, R, U, V, I, S, r0, e0, tp⟩ := t
  obtain ⟨sp, rt, en, cp, rm, xA, xL, xH, a1, a2, a3, a4, a5, a6, a7, a8, a9, a10, a11, a12, a13, a14, a15, a16, a17, a18, a19⟩ := u
  obtain ⟨hC, hF, h1, h2, h3, h9, g1, g2, g3, hN, hE, hK⟩ := zq_Rel h
  have cn : (nI n).toNatClampNeg = n := nI_clamp (by omega)
  have in1 : vp_in (nI n) 43 := pk_in n 43 (by omega)
  have hN' : zq_N W (zq_up I n e) (upd a5 n k) (upd a6 n m) := by
    intro i hi
    by_cases q : i = n
    · rw [q, pk_us, pk_us, zq_up_s]
      exact ⟨hk, hm⟩
    · rw [pk_un q, pk_un q, zq_up_n q]
      exact hN i hi
  have hK' : zq_K (upd a7 n (vp_nar .boolean 0)) (upd a8 n 0) a16 := by
    refine ⟨fun i hi => ?_, hK.2⟩
    by_cases q : i = n
    · rw [q, pk_us, pk_us]
      exact ⟨rfl, rfl⟩
    · rw [pk_un q, pk_un q]
      exact hK.1 i hi
  unfold wpX_setUp
  rw [cn]
  refine ⟨in1, nm_e ⟨in1, nm_e ⟨in1, nm_e ⟨in1, nm_e ⟨in1, nm_e ⟨in1, nm_e ⟨in1, nm_e ⟨in1, nm_e ?_⟩⟩⟩⟩⟩⟩⟩⟩
  refine zq_wpull hn (zq_Rmk (L := zq_up L n 0) (R := zq_up R n 0) (U := zq_up U n 0) (V := zq_up V n 2) (I := zq_up I n e) hC hF (zq_Au h1 rfl) (zq_Au h2 rfl) (zq_Au h3 rfl) (zq_Au h9 rfl) (zq_Gu g1 (by decide)) (zq_Gu g2 (by decide)) (zq_Gu g3 (by decide)) hN' hE hK') (fun u' h' => ?_)
  obtain ⟨sp', rt', en', cp', rm', xA', xL', xH', a1', a2', a3', a4', a5', a6', a7', a8', a9', a10', a11', a12', a13', a14', a15', a16', a17', a18', a19'⟩ := u'
  exact hp _ h'
theorem zq_wpush {post : St2 → Prop} {sp rt en cp rm xA xL xH : Int32} {a1 a2 a3 a4 a5 a6 a7 a8 a9 a10 a11 a12 a13 a14 a15 a16 a17 a18 a19 : Nat → Int32} {n : Nat} (hn : n < 7) (h9 : a9 n = 2) (h8 : a8 n = 0) (h : post (sp, rt, en, cp, rm, xA, xL, xH, a1, a2, a3, a4, a5, a6, a7, a8, a9, a10, a11, a12, a13, a14, a15, a16, a17, a18, a19)) : wpX_push post (sp, rt, en, cp, rm, xA, xL, xH, a1, a2, a3, a4, a5, a6, a7, a8, a9, a10, a11, a12, a13, a14, a15, a16, a17, a18, a19) (nI n) := by
  have cn : (nI n).toNatClampNeg = n := nI_clamp (by omega)
  have in1 : vp_in (nI n) 43 := pk_in n 43 (by omega)
  unfold wpX_push
  rw [cn]
  refine ⟨in1, br_t h9 ?_⟩
  unfold wX_push_55
  rw [cn]
  exact ⟨in1, br_t h8 h⟩
def zq_seek (L R V : Nat → Nat) (S : Nat → List Nat) : Nat → Nat → Nat → Option Nat
  | 0, _, _ => none
  | f + 1, n, k => if V n = 2 ∧ (S (L n)).length ≤ 1000 then (if k = (S (L n)).length then some n else if (S (L n)).length ≤ k then zq_seek L R V S f (R n) (k - (S (L n)).length - 1) else zq_seek L R V S f (L n) k) else none
theorem zq_seek_s (L R V : Nat → Nat) (S : Nat → List Nat) (f n k : Nat) : zq_seek L R V S (f + 1) n k = if V n = 2 ∧ (S (L n)).length ≤ 1000 then (if k = (S (L n)).length then some n else if (S (L n)).length ≤ k then zq_seek L R V S f (R n) (k - (S (L n)).length - 1) else zq_seek L R V S f (L n) k) else none := rfl
def zq_sk (t : zq_T) (k : Nat) : Option Nat := match t with
  | (L, R, U, V, I, S, r0, e0, tp) => zq_seek L R V S 43 r0 k
theorem zq_ws10 {post : Int32 → St2 → Prop} {c : Nat} {W : Nat → Nat × Int} {L R U V I : Nat → Nat} {S : Nat → List Nat} {r0 e0 tp : Nat} {sp rt en cp rm xA xL xH : Int32} {a1 a2 a3 a4 a5 a6 a7 a8 a9 a10 a11 a12 a13 a14 a15 a16 a17 a18 a19 : Nat → Int32} (h : zq_R c W (L, R, U, V, I, S, r0, e0, tp) (sp, rt, en, cp, rm, xA, xL, xH, a1, a2, a3, a4, a5, a6, a7, a8, a9, a10, a11, a12, a13, a14, a15, a16, a17, a18, a19)) :
    ∀ (f n k i x : Nat), zq_seek L R V S f n k = some x → n < 7 → k ≤ 1000 → i + f ≤ 43 → (x < 7 → post (nI x) (sp, rt, en, cp, rm, xA, xL, xH, a1, a2, a3, a4, a5, a6, a7, a8, a9, a10, a11, a12, a13, a14, a15, a16, a17, a18, a19)) → wX_seek_10 post f (nI n) (nI k) (nI i) sp rt en cp rm xA xL xH a1 a2 a3 a4 a5 a6 a7 a8 a9 a10 a11 a12 a13 a14 a15 a16 a17 a18 a19 := by
  obtain ⟨hC, hF, h1, h2, h3, h9, g1, g2, g3, hN, hE, hK⟩ := zq_Rel h
  intro f
  induction f with
  | zero =>
    intro n k i x e
    have e' : (none : Option Nat) = some x := e
    cases e'
  | succ f ih =>
    intro n k i x e hn hk hi hp
    rw [zq_seek_s] at e
    have hv : V n = 2 ∧ (S (L n)).length ≤ 1000 := by
      by_cases q : V n = 2 ∧ (S (L n)).length ≤ 1000
      · exact q
      · rw [if_neg q] at e
        cases e
    rw [if_pos hv] at e
    obtain ⟨v2, hl⟩ := hv
    have gl := g1 n hn
    have gr := g2 n hn
    have cn : (nI n).toNatClampNeg = n := nI_clamp (by omega)
    have cl : (nI (L n)).toNatClampNeg = L n := nI_clamp (by omega)
    have in1 : vp_in (nI n) 43 := pk_in n 43 (by omega)
    have in2 : vp_in (nI (L n)) 43 := pk_in (L n) 43 (by omega)
    refine pk_le 43 i (fun z => absurd z (by omega)) (fun _ => zq_wpush hn (by rw [h9 n hn, v2]; rfl) (hK.1 n hn).2 ?_)
    dsimp only
    rw [cn, h1 n hn, h2 n hn, cl, (hE (L n) gl).1]
    refine ⟨in1, in2, nm_e (pk_eq k (S (L n)).length (fun ek => ?_) (fun nk => pk_le (S (L n)).length k (fun lk => ?_) (fun lk => ?_)))⟩
    · rw [if_pos ek] at e
      cases e
      exact hp hn
    · rw [if_neg nk, if_pos lk] at e
      refine nm_r (e' := nI (k - (S (L n)).length - 1)) ?_ ⟨in1, nm_e (nm_r (nI_1 i) (ih _ _ _ _ e gr (by omega) (by omega) hp))⟩
      show nI k - nI (S (L n)).length - nI 1 = _
      rw [pk_sub lk, pk_sub (by omega)]
    · rw [if_neg nk, if_neg (by omega)] at e
      exact ⟨in1, nm_e (nm_r (nI_1 i) (ih _ _ _ _ e gl hk (by omega) hp))⟩
theorem zq_wseek {post : Int32 → St2 → Prop} {c : Nat} {W : Nat → Nat × Int} {t : zq_T} {u : St2} {k x : Nat} (h : zq_R c W t u) (hk : k ≤ 1000) (e : zq_sk t k = some x) (hp : x < 7 → post (nI x) u) : wpX_seek post u (nI k) := by
  obtain ⟨L, R, U, V, I, S, r0, e0, tp⟩ := t
  obtain ⟨sp, rt, en, cp, rm, xA, xL, xH, a1, a2, a3, a4, a5, a6, a7, a8, a9, a10, a11, a12, a13, a14, a15, a16, a17, a18, a19⟩ := u
  have hF := (zq_Rel h).2.1
  have hr : rt = nI r0 := hF.2.1
  subst hr
  exact ⟨43, zq_ws10 h 43 r0 k 0 x e hF.2.2.2.2.2.1 hk (by omega) hp⟩
def zq_rot4 (t : zq_T) (n p : Nat) : zq_T := zq_pull (zq_pull t p) n
def zq_rot3 (t : zq_T) (n p g : Nat) : zq_T := match t with
  | (L, R, U, V, I, S, r0, e0, tp) => if g = 0 then zq_rot4 (L, R, zq_up (zq_up U p n) n g, V, I, S, r0, e0, tp) n p else if L g = p then zq_rot4 (zq_up L g n, R, zq_up (zq_up U p n) n g, V, I, S, r0, e0, tp) n p else zq_rot4 (L, zq_up R g n, zq_up (zq_up U p n) n g, V, I, S, r0, e0, tp) n p
def zq_rot2 (t : zq_T) (n p g x : Nat) : zq_T := match t with
  | (L, R, U, V, I, S, r0, e0, tp) => if x = 0 then zq_rot3 (L, R, U, V, I, S, r0, e0, tp) n p g else zq_rot3 (L, R, zq_up U x p, V, I, S, r0, e0, tp) n p g
def zq_rot (t : zq_T) (n : Nat) : zq_T := match t with
  | (L, R, U, V, I, S, r0, e0, tp) => if L (U n) = n then zq_rot2 (zq_up L (U n) (R n), zq_up R n (U n), U, V, I, S, r0, e0, tp) n (U n) (U (U n)) (R n) else zq_rot2 (zq_up L n (U n), zq_up R (U n) (L n), U, V, I, S, r0, e0, tp) n (U n) (U (U n)) (L n)
theorem zq_wr131 {post : St2 → Prop} {c : Nat} {W : Nat → Nat × Int} {t : zq_T} {sp rt en cp rm xA xL xH : Int32} {a1 a2 a3 a4 a5 a6 a7 a8 a9 a10 a11 a12 a13 a14 a15 a16 a17 a18 a19 : Nat → Int32} {n p : Nat} (hn : n < 7) (hp : p < 7) (h : zq_R c W t (sp, rt, en, cp, rm, xA, xL, xH, a1, a2, a3, a4, a5, a6, a7, a8, a9, a10, a11, a12, a13, a14, a15, a16, a17, a18, a19)) (hq : ∀ u', zq_R c W (zq_rot4 t n p) u' → post u') : wX_rotate_131 post (nI n) (nI p) sp rt en cp rm xA xL xH a1 a2 a3 a4 a5 a6 a7 a8 a9 a10 a11 a12 a13 a14 a15 a16 a17 a18 a19 := by
  unfold wX_rotate_131
  refine zq_wpull hp h (fun u1 h1 => ?_)
  obtain ⟨sp1, rt1, en1, cp1, rm1, xA1, xL1, xH1, a11, a21, a31, a41, a51, a61, a71, a81, a91, a101, a111, a121, a131, a141, a151, a161, a171, a181, a191⟩ := u1
  refine zq_wpull hn h1 (fun u2 h2 => ?_)
  obtain ⟨sp2, rt2, en2, cp2, rm2, xA2, xL2, xH2, a12, a22, a32, a42, a52, a62, a72, a82, a92, a102, a112, a122, a132, a142, a152, a162, a172, a182, a192⟩ := u2
  exact hq _ h2
theorem zq_wr86 {post : St2 → Prop} {c : Nat} {W : Nat → Nat × Int} {L R U V I : Nat → Nat} {S : Nat → List Nat} {r0 e0 tp : Nat} {sp rt en cp rm xA xL xH : Int32} {a1 a2 a3 a4 a5 a6 a7 a8 a9 a10 a11 a12 a13 a14 a15 a16 a17 a18 a19 : Nat → Int32} {n p g : Nat} (hn : n < 7) (hp : p < 7) (hg : g < 7) (h : zq_R c W (L, R, U, V, I, S, r0, e0, tp) (sp, rt, en, cp, rm, xA, xL, xH, a1, a2, a3, a4, a5, a6, a7, a8, a9, a10, a11, a12, a13, a14, a15, a16, a17, a18, a19))
    (hq : ∀ u', zq_R c W (zq_rot3 (L, R, U, V, I, S, r0, e0, tp) n p g) u' → post u') : wX_rotate_86 post (nI n) (nI p) (nI g) sp rt en cp rm xA xL xH a1 a2 a3 a4 a5 a6 a7 a8 a9 a10 a11 a12 a13 a14 a15 a16 a17 a18 a19 := by
  obtain ⟨hC, hF, h1, h2, h3, h9, g1, g2, g3, hN, hE, hK⟩ := zq_Rel h
  have cn : (nI n).toNatClampNeg = n := nI_clamp (by omega)
  have cq : (nI p).toNatClampNeg = p := nI_clamp (by omega)
  have cg : (nI g).toNatClampNeg = g := nI_clamp (by omega)
  have inn : vp_in (nI n) 43 := pk_in n 43 (by omega)
  have inp : vp_in (nI p) 43 := pk_in p 43 (by omega)
  have ing : vp_in (nI g) 43 := pk_in g 43 (by omega)
  have u3 : zq_A (upd (upd a3 p (nI n)) n (nI g)) (zq_up (zq_up U p n) n g) := zq_Au (zq_Au h3 rfl) rfl
  have v3 : zq_G (zq_up (zq_up U p n) n g) := zq_Gu (zq_Gu g3 hn) hg
  have lg := g1 g hg
  unfold wX_rotate_86
  rw [cn, cq, cg, h1 g hg]
  refine ⟨inp, nm_e ⟨inn, nm_e (pk_eq g 0 (fun e => ?_) (fun e => ⟨ing, pk_eq (L g) p (fun e2 => ⟨ing, nm_e ?_⟩) (fun e2 => ⟨ing, nm_e ?_⟩)⟩))⟩⟩
  · refine zq_wr131 hn hp (zq_Rmk hC hF h1 h2 u3 h9 g1 g2 v3 hN hE hK) (fun u' h' => hq u' ?_)
    unfold zq_rot3
    dsimp only
    rw [if_pos e]
    exact h'
  · refine zq_wr131 hn hp (zq_Rmk hC hF (zq_Au h1 rfl) h2 u3 h9 (zq_Gu g1 hn) g2 v3 hN hE hK) (fun u' h' => hq u' ?_)
    unfold zq_rot3
    dsimp only
    rw [if_neg e, if_pos e2]
    exact h'
  · refine zq_wr131 hn hp (zq_Rmk hC hF h1 (zq_Au h2 rfl) u3 h9 g1 (zq_Gu g2 hn) v3 hN hE hK) (fun u' h' => hq u' ?_)
    unfold zq_rot3
    dsimp only
    rw [if_neg e, if_neg e2]
    exact h'
theorem zq_wr73 {post : St2 → Prop} {c : Nat} {W : Nat → Nat × Int} {L R U V I : Nat → Nat} {S : Nat → List Nat} {r0 e0 tp : Nat} {sp rt en cp rm xA xL xH : Int32} {a1 a2 a3 a4 a5 a6 a7 a8 a9 a10 a11 a12 a13 a14 a15 a16 a17 a18 a19 : Nat → Int32} {n p g x : Nat} (hn : n < 7) (hp : p < 7) (hg : g < 7) (hx : x < 7) (h : zq_R c W (L, R, U, V, I, S, r0, e0, tp) (sp, rt, en, cp, rm, xA, xL, xH, a1, a2, a3, a4, a5, a6, a7, a8, a9, a10, a11, a12, a13, a14, a15, a16, a17, a18, a19))
    (hq : ∀ u', zq_R c W (zq_rot2 (L, R, U, V, I, S, r0, e0, tp) n p g x) u' → post u') : wX_rotate_73 post (nI n) (nI p) (nI g) (nI x) sp rt en cp rm xA xL xH a1 a2 a3 a4 a5 a6 a7 a8 a9 a10 a11 a12 a13 a14 a15 a16 a17 a18 a19 := by
  obtain ⟨hC, hF, h1, h2, h3, h9, g1, g2, g3, hN, hE, hK⟩ := zq_Rel h
  have cx : (nI x).toNatClampNeg = x := nI_clamp (by omega)
  have inx : vp_in (nI x) 43 := pk_in x 43 (by omega)
  unfold wX_rotate_73
  rw [cx]
  refine pk_eq x 0 (fun e => ?_) (fun e => ⟨inx, nm_e ?_⟩)
  · refine zq_wr86 hn hp hg h (fun u' h' => hq u' ?_)
    unfold zq_rot2
    dsimp only
    rw [if_pos e]
    exact h'
  · refine zq_wr86 hn hp hg (zq_Rmk hC hF h1 h2 (zq_Au h3 rfl) h9 g1 g2 (zq_Gu g3 hp) hN hE hK) (fun u' h' => hq u' ?_)
    unfold zq_rot2
    dsimp only
    rw [if_neg e]
    exact h'
theorem zq_wrot {post : St2 → Prop} {c : Nat} {W : Nat → Nat × Int} {t : zq_T} {u : St2} {n : Nat} (hn : n < 7) (h : zq_R c W t u) (hq : ∀ u', zq_R c W (zq_rot t n) u' → post u') : wpX_rotate post u (nI n) := by
  obtain ⟨L, R, U, V, I, S, r0, e0, tp⟩ := t
  obtain ⟨sp, rt, en, cp, rm, xA, xL, xH, a1, a2, a3, a4, a5, a6, a7, a8, a9, a10, a11, a12, a13, a14, a15, a16, a17, a18, a19⟩ := u
  obtain ⟨hC, hF, h1, h2, h3, h9, g1, g2, g3, hN, hE, hK⟩ := zq_Rel h
  have gu := g3 n hn
  have guu := g3 (U n) gu
  have cn : (nI n).toNatClampNeg = n := nI_clamp (by omega)
  have cu : (nI (U n)).toNatClampNeg = U n := nI_clamp (by omega)
  have in1 : vp_in (nI n) 43 := pk_in n 43 (by omega)
  have inu : vp_in (nI (U n)) 43 := pk_in (U n) 43 (by omega)
  have llu := g1 (U n) gu
  unfold wpX_rotate
  rw [cn]
  refine ⟨in1, nm_r (h3 n hn) ?_⟩
  rw [cu, h1 (U n) gu, h1 n hn, h2 n hn]
  refine ⟨inu, nm_r (h3 (U n) gu) ⟨inu, pk_eq (L (U n)) n (fun e => ⟨in1, nm_e ⟨inu, nm_e ⟨in1, nm_e ?_⟩⟩⟩) (fun e => ⟨in1, nm_e ⟨inu, nm_e ⟨in1, nm_e ?_⟩⟩⟩)⟩⟩
  · refine zq_wr73 hn gu guu (g2 n hn) (zq_Rmk hC hF (zq_Au h1 rfl) (zq_Au h2 rfl) h3 h9 (zq_Gu g1 (g2 n hn)) (zq_Gu g2 gu) g3 hN hE hK) (fun u' h' => hq u' ?_)
    unfold zq_rot
    dsimp only
    rw [if_pos e]
    exact h'
  · refine zq_wr73 hn gu guu (g1 n hn) (zq_Rmk hC hF (zq_Au h1 rfl) (zq_Au h2 rfl) h3 h9 (zq_Gu g1 gu) (zq_Gu g2 (g1 n hn)) g3 hN hE hK) (fun u' h' => hq u' ?_)
    unfold zq_rot
    dsimp only
    rw [if_neg e]
    exact h'
end
section
/-! lift, isolate, hang, place, insert, good, move, load -/
def zq_lift : Nat → zq_T → Nat → Nat → Option zq_T
  | 0, _, _, _ => none
  | f + 1, (L, R, U, V, I, S, r0, e0, tp), n, top => if U n = top then (if top = 0 then some (L, R, U, V, I, S, n, e0, tp) else some (L, R, U, V, I, S, r0, e0, tp)) else if U (U n) = top then zq_lift f (zq_rot (L, R, U, V, I, S, r0, e0, tp) n) n top else zq_lift f (zq_rot (zq_rot (L, R, U, V, I, S, r0, e0, tp) (if L (U (U n)) = U n then (if L (U n) = n then U n else n) else (if L (U n) = n then n else U n))) n) n top
theorem zq_lift_s (f : Nat) (L R U V I : Nat → Nat) (S : Nat → List Nat) (r0 e0 tp n top : Nat) : zq_lift (f + 1) (L, R, U, V, I, S, r0, e0, tp) n top = if U n = top then (if top = 0 then some (L, R, U, V, I, S, n, e0, tp) else some (L, R, U, V, I, S, r0, e0, tp)) else if U (U n) = top then zq_lift f (zq_rot (L, R, U, V, I, S, r0, e0, tp) n) n top else zq_lift f (zq_rot (zq_rot (L, R, U, V, I, S, r0, e0, tp) (if L (U (U n)) = U n then (if L (U n) = n then U n else n) else (if L (U n) = n then n else U n))) n) n top := rfl
theorem zq_wl98 {post : St2 → Prop} {J : Int32 → Int32 → Int32 → Int32 → Int32 → Int32 → Int32 → Int32 → Int32 → (Nat → Int32) → (Nat → Int32) → (Nat → Int32) → (Nat → Int32) → (Nat → Int32) → (Nat → Int32) → (Nat → Int32) → (Nat → Int32) → (Nat → Int32) → (Nat → Int32) → (Nat → Int32) → (Nat → Int32) → (Nat → Int32) → (Nat → Int32) → (Nat → Int32) → (Nat → Int32) → (Nat → Int32) → (Nat → Int32) → (Nat → Int32) → Prop} {c : Nat} {W : Nat → Nat × Int} {t : zq_T} {sp rt en cp rm xA xL xH : Int32} {a1 a2 a3 a4 a5 a6 a7 a8 a9 a10 a11 a12 a13 a14 a15 a16 a17 a18 a19 : Nat → Int32} {n i : Nat} {x2 : Int32} (hn : n < 7) (h : zq_R c W t (sp, rt, en, cp, rm, xA, xL, xH, a1, a2, a3, a4, a5, a6, a7, a8, a9, a10, a11, a12, a13, a14, a15, a16, a17, a18, a19))
    (hq : ∀ (sp' rt' en' cp' rm' xA' xL' xH' : Int32) (a1' a2' a3' a4' a5' a6' a7' a8' a9' a10' a11' a12' a13' a14' a15' a16' a17' a18' a19' : Nat → Int32), zq_R c W (zq_rot t n) (sp', rt', en', cp', rm', xA', xL', xH', a1', a2', a3', a4', a5', a6', a7', a8', a9', a10', a11', a12', a13', a14', a15', a16', a17', a18', a19') → J (nI (i + 1)) sp' rt' en' cp' rm' xA' xL' xH' a1' a2' a3' a4' a5' a6' a7' a8' a9' a10' a11' a12' a13' a14' a15' a16' a17' a18' a19') :
    wX_lift_98 post J (nI n) x2 (nI i) sp rt en cp rm xA xL xH a1 a2 a3 a4 a5 a6 a7 a8 a9 a10 a11 a12 a13 a14 a15 a16 a17 a18 a19 := by
  unfold wX_lift_98
  refine zq_wrot hn h (fun u1 h1 => ?_)
  obtain ⟨sp1, rt1, en1, cp1, rm1, xA1, xL1, xH1, a11, a21, a31, a41, a51, a61, a71, a81, a91, a101, a111, a121, a131, a141, a151, a161, a171, a181, a191⟩ := u1
  exact nm_r (nI_1 i) (hq _ _ _ _ _ _ _ _ _ _ _ _ _ _ _ _ _ _ _ _ _ _ _ _ _ _ _ h1)
theorem zq_wl95 {post : St2 → Prop} {J : Int32 → Int32 → Int32 → Int32 → Int32 → Int32 → Int32 → Int32 → Int32 → (Nat → Int32) → (Nat → Int32) → (Nat → Int32) → (Nat → Int32) → (Nat → Int32) → (Nat → Int32) → (Nat → Int32) → (Nat → Int32) → (Nat → Int32) → (Nat → Int32) → (Nat → Int32) → (Nat → Int32) → (Nat → Int32) → (Nat → Int32) → (Nat → Int32) → (Nat → Int32) → (Nat → Int32) → (Nat → Int32) → (Nat → Int32) → Prop} {c : Nat} {W : Nat → Nat × Int} {t : zq_T} {sp rt en cp rm xA xL xH : Int32} {a1 a2 a3 a4 a5 a6 a7 a8 a9 a10 a11 a12 a13 a14 a15 a16 a17 a18 a19 : Nat → Int32} {n w i : Nat} {x2 : Int32} (hn : n < 7) (hw : w < 7) (h : zq_R c W t (sp, rt, en, cp, rm, xA, xL, xH, a1, a2, a3, a4, a5, a6, a7, a8, a9, a10, a11, a12, a13, a14, a15, a16, a17, a18, a19))
    (hq : ∀ (sp' rt' en' cp' rm' xA' xL' xH' : Int32) (a1' a2' a3' a4' a5' a6' a7' a8' a9' a10' a11' a12' a13' a14' a15' a16' a17' a18' a19' : Nat → Int32), zq_R c W (zq_rot (zq_rot t w) n) (sp', rt', en', cp', rm', xA', xL', xH', a1', a2', a3', a4', a5', a6', a7', a8', a9', a10', a11', a12', a13', a14', a15', a16', a17', a18', a19') → J (nI (i + 1)) sp' rt' en' cp' rm' xA' xL' xH' a1' a2' a3' a4' a5' a6' a7' a8' a9' a10' a11' a12' a13' a14' a15' a16' a17' a18' a19') :
    wX_lift_95 post J (nI n) x2 (nI i) (nI w) sp rt en cp rm xA xL xH a1 a2 a3 a4 a5 a6 a7 a8 a9 a10 a11 a12 a13 a14 a15 a16 a17 a18 a19 := by
  unfold wX_lift_95
  refine zq_wrot hw h (fun u1 h1 => ?_)
  obtain ⟨sp1, rt1, en1, cp1, rm1, xA1, xL1, xH1, a11, a21, a31, a41, a51, a61, a71, a81, a91, a101, a111, a121, a131, a141, a151, a161, a171, a181, a191⟩ := u1
  exact zq_wl98 hn h1 hq
theorem zq_wl2 {post : St2 → Prop} {c : Nat} {W : Nat → Nat × Int} {n top : Nat} (hn : n < 7) (ht : top < 7) :
    ∀ (f : Nat) (t : zq_T) (sp rt en cp rm xA xL xH : Int32) (a1 a2 a3 a4 a5 a6 a7 a8 a9 a10 a11 a12 a13 a14 a15 a16 a17 a18 a19 : Nat → Int32) (i : Nat) (t' : zq_T), zq_lift f t n top = some t' → zq_R c W t (sp, rt, en, cp, rm, xA, xL, xH, a1, a2, a3, a4, a5, a6, a7, a8, a9, a10, a11, a12, a13, a14, a15, a16, a17, a18, a19) → i + f ≤ 43 → (∀ u', zq_R c W t' u' → post u') → wX_lift_2 post (nI n) (nI top) f (nI i) sp rt en cp rm xA xL xH a1 a2 a3 a4 a5 a6 a7 a8 a9 a10 a11 a12 a13 a14 a15 a16 a17 a18 a19 := by
  intro f
  induction f with
  | zero =>
    intro t sp rt en cp rm xA xL xH a1 a2 a3 a4 a5 a6 a7 a8 a9 a10 a11 a12 a13 a14 a15 a16 a17 a18 a19 i t' e
    have e' : (none : Option zq_T) = some t' := e
    cases e'
  | succ f ih =>
    intro t sp rt en cp rm xA xL xH a1 a2 a3 a4 a5 a6 a7 a8 a9 a10 a11 a12 a13 a14 a15 a16 a17 a18 a19 i t' e h hi hq
    obtain ⟨L, R, U, V, I, S, r0, e0, tp⟩ := t
    obtain ⟨hC, hF, h1, h2, h3, h9, g1, g2, g3, hN, hE, hK⟩ := zq_Rel h
    rw [zq_lift_s] at e
    have gu := g3 n hn
    have guu := g3 (U n) gu
    have cn : (nI n).toNatClampNeg = n := nI_clamp (by omega)
    have cu : (nI (U n)).toNatClampNeg = U n := nI_clamp (by omega)
    have cuu : (nI (U (U n))).toNatClampNeg = U (U n) := nI_clamp (by omega)
    have in1 : vp_in (nI n) 43 := pk_in n 43 (by omega)
    have inu : vp_in (nI (U n)) 43 := pk_in (U n) 43 (by omega)
    have inuu : vp_in (nI (U (U n))) 43 := pk_in (U (U n)) 43 (by omega)
    have k1 := g1 (U n) gu
    have k2 := g1 (U (U n)) guu
    refine pk_le 43 i (fun z => absurd z (by omega)) (fun _ => ⟨in1, nm_r (e' := nI (U n)) (by rw [cn]; exact h3 n hn) (pk_eq (U n) top (fun q1 => ?_) (fun q1 => ⟨inu, nm_r (e' := nI (U (U n))) (by rw [cu]; exact h3 (U n) gu) (pk_eq (U (U n)) top (fun q2 => ?_) (fun q2 => ⟨inuu, ?_⟩))⟩))⟩)
    · rw [if_pos q1] at e
      unfold wX_lift_109
      refine pk_eq top 0 (fun q => ?_) (fun q => ?_)
      · rw [if_pos q] at e
        cases e
        exact hq _ (zq_Rmk hC ⟨hF.1, rfl, hF.2.2.1, hF.2.2.2.1, hF.2.2.2.2.1, hn, hF.2.2.2.2.2.2⟩ h1 h2 h3 h9 g1 g2 g3 hN hE hK)
      · rw [if_neg q] at e
        cases e
        exact hq _ h
    · rw [if_neg q1, if_pos q2] at e
      exact zq_wl98 hn h (fun sp rt en cp rm xA xL xH a1 a2 a3 a4 a5 a6 a7 a8 a9 a10 a11 a12 a13 a14 a15 a16 a17 a18 a19 h' => ih _ _ _ _ _ _ _ _ _ _ _ _ _ _ _ _ _ _ _ _ _ _ _ _ _ _ _ _ _ _ e h' (by omega) hq)
    · rw [if_neg q1, if_neg q2] at e
      rw [cuu, h1 (U (U n)) guu]
      refine pk_eq (L (U (U n))) (U n) (fun q3 => ?_) (fun q3 => ?_)
      · unfold wX_lift_57
        rw [cu, h1 (U n) gu]
        refine ⟨inu, pk_eq (L (U n)) n (fun q4 => ?_) (fun q4 => ?_)⟩
        · rw [if_pos q3, if_pos q4] at e
          unfold wX_lift_73
          refine br_t rfl ?_
          unfold wX_lift_81
          refine br_f (by decide) ?_
          exact zq_wl95 hn gu h (fun sp rt en cp rm xA xL xH a1 a2 a3 a4 a5 a6 a7 a8 a9 a10 a11 a12 a13 a14 a15 a16 a17 a18 a19 h' => ih _ _ _ _ _ _ _ _ _ _ _ _ _ _ _ _ _ _ _ _ _ _ _ _ _ _ _ _ _ _ e h' (by omega) hq)
        · rw [if_pos q3, if_neg q4] at e
          unfold wX_lift_73
          refine br_f (by decide) ?_
          unfold wX_lift_81
          refine br_t rfl ?_
          exact zq_wl95 hn hn h (fun sp rt en cp rm xA xL xH a1 a2 a3 a4 a5 a6 a7 a8 a9 a10 a11 a12 a13 a14 a15 a16 a17 a18 a19 h' => ih _ _ _ _ _ _ _ _ _ _ _ _ _ _ _ _ _ _ _ _ _ _ _ _ _ _ _ _ _ _ e h' (by omega) hq)
      · unfold wX_lift_57
        rw [cu, h1 (U n) gu]
        refine ⟨inu, pk_eq (L (U n)) n (fun q4 => ?_) (fun q4 => ?_)⟩
        · rw [if_neg q3, if_pos q4] at e
          unfold wX_lift_73
          refine br_f (by decide) ?_
          unfold wX_lift_81
          refine br_t rfl ?_
          exact zq_wl95 hn hn h (fun sp rt en cp rm xA xL xH a1 a2 a3 a4 a5 a6 a7 a8 a9 a10 a11 a12 a13 a14 a15 a16 a17 a18 a19 h' => ih _ _ _ _ _ _ _ _ _ _ _ _ _ _ _ _ _ _ _ _ _ _ _ _ _ _ _ _ _ _ e h' (by omega) hq)
        · rw [if_neg q3, if_neg q4] at e
          unfold wX_lift_73
          refine br_t rfl ?_
          unfold wX_lift_81
          refine br_f (by decide) ?_
          exact zq_wl95 hn gu h (fun sp rt en cp rm xA xL xH a1 a2 a3 a4 a5 a6 a7 a8 a9 a10 a11 a12 a13 a14 a15 a16 a17 a18 a19 h' => ih _ _ _ _ _ _ _ _ _ _ _ _ _ _ _ _ _ _ _ _ _ _ _ _ _ _ _ _ _ _ e h' (by omega) hq)
theorem zq_wlift {post : St2 → Prop} {c : Nat} {W : Nat → Nat × Int} {t t' : zq_T} {u : St2} {n top : Nat} (hn : n < 7) (ht : top < 7) (h : zq_R c W t u) (e : zq_lift 43 t n top = some t') (hq : ∀ u', zq_R c W t' u' → post u') : wpX_lift post u (nI n) (nI top) := by
  obtain ⟨sp, rt, en, cp, rm, xA, xL, xH, a1, a2, a3, a4, a5, a6, a7, a8, a9, a10, a11, a12, a13, a14, a15, a16, a17, a18, a19⟩ := u
  exact ⟨43, zq_wl2 hn ht 43 t _ _ _ _ _ _ _ _ _ _ _ _ _ _ _ _ _ _ _ _ _ _ _ _ _ _ _ 0 t' e h (by omega) hq⟩
def zq_L (t : zq_T) : Nat → Nat := t.1
def zq_S (t : zq_T) : Nat → List Nat := t.2.2.2.2.2.1
def zq_e0 (t : zq_T) : Nat := t.2.2.2.2.2.2.2.1
def zq_tp (t : zq_T) : Nat := t.2.2.2.2.2.2.2.2
def zq_iso (t : zq_T) (a b : Nat) : Option (zq_T × Nat) := match zq_sk t a with
  | none => none
  | some x => match zq_lift 43 t x 0 with
    | none => none
    | some t1 => match zq_sk t1 (b + 1) with
      | none => none
      | some y => match zq_lift 43 t1 y x with
        | none => none
        | some t2 => some (t2, zq_L t2 y)
theorem zq_iso_inv {t t2 : zq_T} {a b z : Nat} (e : zq_iso t a b = some (t2, z)) : ∃ x t1 y, zq_sk t a = some x ∧ zq_lift 43 t x 0 = some t1 ∧ zq_sk t1 (b + 1) = some y ∧ zq_lift 43 t1 y x = some t2 ∧ z = zq_L t2 y := by
  unfold zq_iso at e
  cases e1 : zq_sk t a with
  | none =>
    rw [e1] at e
    cases e
  | some x =>
    rw [e1] at e
    dsimp only at e
    cases e2 : zq_lift 43 t x 0 with
    | none =>
      rw [e2] at e
      cases e
    | some t1 =>
      rw [e2] at e
      dsimp only at e
      cases e3 : zq_sk t1 (b + 1) with
      | none =>
        rw [e3] at e
        cases e
      | some y =>
        rw [e3] at e
        dsimp only at e
        cases e4 : zq_lift 43 t1 y x with
        | none =>
          rw [e4] at e
          cases e
        | some t3 =>
          rw [e4] at e
          dsimp only at e
          cases e
          exact ⟨x, t1, y, rfl, e2, e3, e4, rfl⟩
theorem zq_wiso {post : Int32 → St2 → Prop} {c : Nat} {W : Nat → Nat × Int} {t t2 : zq_T} {u : St2} {a b z : Nat} (h : zq_R c W t u) (ha : a ≤ 900) (hb : b ≤ 900) (e : zq_iso t a b = some (t2, z)) (hq : ∀ u', zq_R c W t2 u' → z < 7 → post (nI z) u') : wpX_isolate post u (nI a) (nI b) := by
  obtain ⟨x, t1, y, e1, e2, e3, e4, e5⟩ := zq_iso_inv e
  obtain ⟨sp, rt, en, cp, rm, xA, xL, xH, a1, a2, a3, a4, a5, a6, a7, a8, a9, a10, a11, a12, a13, a14, a15, a16, a17, a18, a19⟩ := u
  unfold wpX_isolate
  refine zq_wseek h (by omega) e1 (fun hx => ?_)
  refine zq_wlift hx (by decide) h e2 (fun u1 h1 => ?_)
  obtain ⟨sp1, rt1, en1, cp1, rm1, xA1, xL1, xH1, a11, a21, a31, a41, a51, a61, a71, a81, a91, a101, a111, a121, a131, a141, a151, a161, a171, a181, a191⟩ := u1
  dsimp only
  rw [nI_1 b]
  refine zq_wseek h1 (by omega) e3 (fun hy => ?_)
  refine zq_wlift hy hx h1 e4 (fun u2 h2 => ?_)
  obtain ⟨sp2, rt2, en2, cp2, rm2, xA2, xL2, xH2, a12, a22, a32, a42, a52, a62, a72, a82, a92, a102, a112, a122, a132, a142, a152, a162, a172, a182, a192⟩ := u2
  obtain ⟨L, R, U, V, I, S, r0, e0, tp⟩ := t2
  have A := (zq_Rel h2).2.2.1
  have G := (zq_Rel h2).2.2.2.2.2.2.1
  have cy : (nI y).toNatClampNeg = y := nI_clamp (by omega)
  dsimp only
  rw [cy, A y hy]
  refine ⟨pk_in y 43 (by omega), ?_⟩
  subst e5
  exact hq _ h2 (G y hy)
def zq_hang (t : zq_T) (n : Nat) : zq_T := match t with
  | (L, R, U, V, I, S, r0, e0, tp) => if n = 0 then zq_pull (zq_pull (zq_up L (R r0) n, R, U, V, I, S, r0, e0, tp) (R r0)) r0 else zq_pull (zq_pull (zq_up L (R r0) n, R, zq_up U n (R r0), V, I, S, r0, e0, tp) (R r0)) r0
theorem zq_wh28 {post : St2 → Prop} {c : Nat} {W : Nat → Nat × Int} {L R U V I : Nat → Nat} {S : Nat → List Nat} {r0 e0 tp : Nat} {sp rt en cp rm xA xL xH : Int32} {a1 a2 a3 a4 a5 a6 a7 a8 a9 a10 a11 a12 a13 a14 a15 a16 a17 a18 a19 : Nat → Int32} {x : Nat} (hx : x < 7) (h : zq_R c W (L, R, U, V, I, S, r0, e0, tp) (sp, rt, en, cp, rm, xA, xL, xH, a1, a2, a3, a4, a5, a6, a7, a8, a9, a10, a11, a12, a13, a14, a15, a16, a17, a18, a19)) (hq : ∀ u', zq_R c W (zq_pull (zq_pull (L, R, U, V, I, S, r0, e0, tp) x) r0) u' → post u') : wX_hang_28 post (nI x) sp rt en cp rm xA xL xH a1 a2 a3 a4 a5 a6 a7 a8 a9 a10 a11 a12 a13 a14 a15 a16 a17 a18 a19 := by
  unfold wX_hang_28
  refine zq_wpull hx h (fun u1 h1 => ?_)
  obtain ⟨sp1, rt1, en1, cp1, rm1, xA1, xL1, xH1, a11, a21, a31, a41, a51, a61, a71, a81, a91, a101, a111, a121, a131, a141, a151, a161, a171, a181, a191⟩ := u1
  have hF := (zq_Rel h1).2.1
  have hr : rt1 = nI r0 := hF.2.1
  subst hr
  refine zq_wpull hF.2.2.2.2.2.1 h1 (fun u2 h2 => ?_)
  obtain ⟨sp2, rt2, en2, cp2, rm2, xA2, xL2, xH2, a12, a22, a32, a42, a52, a62, a72, a82, a92, a102, a112, a122, a132, a142, a152, a162, a172, a182, a192⟩ := u2
  exact hq _ h2
theorem zq_whang {post : St2 → Prop} {c : Nat} {W : Nat → Nat × Int} {t : zq_T} {u : St2} {n : Nat} (hn : n < 7) (h : zq_R c W t u) (hq : ∀ u', zq_R c W (zq_hang t n) u' → post u') : wpX_hang post u (nI n) := by
  obtain ⟨L, R, U, V, I, S, r0, e0, tp⟩ := t
  obtain ⟨sp, rt, en, cp, rm, xA, xL, xH, a1, a2, a3, a4, a5, a6, a7, a8, a9, a10, a11, a12, a13, a14, a15, a16, a17, a18, a19⟩ := u
  obtain ⟨hC, hF, h1, h2, h3, h9, g1, g2, g3, hN, hE, hK⟩ := zq_Rel h
  have hr : rt = nI r0 := hF.2.1
  have r7 := hF.2.2.2.2.2.1
  have rr := g2 r0 r7
  subst hr
  have cr : (nI r0).toNatClampNeg = r0 := nI_clamp (by omega)
  have cx : (nI (R r0)).toNatClampNeg = R r0 := nI_clamp (by omega)
  have cn : (nI n).toNatClampNeg = n := nI_clamp (by omega)
  have inr : vp_in (nI r0) 43 := pk_in r0 43 (by omega)
  have inx : vp_in (nI (R r0)) 43 := pk_in (R r0) 43 (by omega)
  have inn : vp_in (nI n) 43 := pk_in n 43 (by omega)
  unfold wpX_hang
  dsimp only
  rw [cr, cn]
  refine ⟨inr, nm_r (h2 r0 r7) ?_⟩
  rw [cx]
  refine ⟨inx, nm_e (pk_eq n 0 (fun e => ?_) (fun e => ⟨inn, nm_e ?_⟩))⟩
  · refine zq_wh28 rr (zq_Rmk hC hF (zq_Au h1 rfl) h2 h3 h9 (zq_Gu g1 hn) g2 g3 hN hE hK) (fun u' h' => hq u' ?_)
    unfold zq_hang
    dsimp only
    rw [if_pos e]
    exact h'
  · refine zq_wh28 rr (zq_Rmk hC hF (zq_Au h1 rfl) h2 (zq_Au h3 rfl) h9 (zq_Gu g1 hn) g2 (zq_Gu g3 rr) hN hE hK) (fun u' h' => hq u' ?_)
    unfold zq_hang
    dsimp only
    rw [if_neg e]
    exact h'
def zq_inc (t : zq_T) : Option zq_T := match t with
  | (L, R, U, V, I, S, r0, e0, tp) => if e0 < 10 then some (L, R, U, V, I, S, r0, e0 + 1, tp) else none
def zq_place (t : zq_T) (pos e : Nat) : Option zq_T := match t with
  | (L, R, U, V, I, S, r0, e0, tp) => match zq_iso (zq_set (L, R, U, V, I, S, r0, e0, tp + 1) (tp + 1) e) pos pos with
    | none => none
    | some q => zq_inc (zq_hang q.1 (tp + 1))
theorem zq_winc {c : Nat} {W : Nat → Nat × Int} {t t1 : zq_T} {sp rt en cp rm xA xL xH : Int32} {a1 a2 a3 a4 a5 a6 a7 a8 a9 a10 a11 a12 a13 a14 a15 a16 a17 a18 a19 : Nat → Int32} (h : zq_R c W t (sp, rt, en, cp, rm, xA, xL, xH, a1, a2, a3, a4, a5, a6, a7, a8, a9, a10, a11, a12, a13, a14, a15, a16, a17, a18, a19)) (e : zq_inc t = some t1) : zq_R c W t1 (sp, rt, en + 1, cp, rm, xA, xL, xH, a1, a2, a3, a4, a5, a6, a7, a8, a9, a10, a11, a12, a13, a14, a15, a16, a17, a18, a19) := by
  obtain ⟨L, R, U, V, I, S, r0, e0, tp⟩ := t
  obtain ⟨hC, hF, h1, h2, h3, h9, g1, g2, g3, hN, hE, hK⟩ := zq_Rel h
  unfold zq_inc at e
  dsimp only at e
  by_cases q : e0 < 10
  · rw [if_pos q] at e
    cases e
    refine zq_Rmk hC ⟨hF.1, hF.2.1, ?_, hF.2.2.2.1, hF.2.2.2.2.1, hF.2.2.2.2.2.1, hF.2.2.2.2.2.2.1, hF.2.2.2.2.2.2.2.1, q⟩ h1 h2 h3 h9 g1 g2 g3 hN hE hK
    rw [hF.2.2.1, nI_1]
  · rw [if_neg q] at e
    cases e
theorem zq_wplace {post : St2 → Prop} {c : Nat} {W : Nat → Nat × Int} {t t1 : zq_T} {u : St2} {pos e : Nat} {k m : Int32} (h : zq_R c W t u) (hpos : pos ≤ 900) (hk : k = nI (W e).1) (hm : m = zq_Z (W e).2) (htp : zq_tp t ≤ 5) (E : zq_place t pos e = some t1)
    (hq : ∀ u', zq_R c W t1 u' → post u') : wpX_place post u (nI pos) k m 0 := by
  obtain ⟨L, R, U, V, I, S, r0, e0, tp⟩ := t
  obtain ⟨sp, rt, en, cp, rm, xA, xL, xH, a1, a2, a3, a4, a5, a6, a7, a8, a9, a10, a11, a12, a13, a14, a15, a16, a17, a18, a19⟩ := u
  obtain ⟨hC, hF, h1, h2, h3, h9, g1, g2, g3, hN, hE, hK⟩ := zq_Rel h
  have t5 : tp ≤ 5 := htp
  have t2 := hF.2.2.2.2.2.2.1
  have c1 : (nI (41 - tp)).toNatClampNeg = 41 - tp := nI_clamp (by omega)
  have hs : a16 (41 - tp) = nI (tp + 1) := by
    rw [hK.2 (41 - tp) (by omega), show 42 - (41 - tp) = tp + 1 by omega]
  unfold zq_place at E
  dsimp only at E
  cases E1 : zq_iso (zq_set (L, R, U, V, I, S, r0, e0, tp + 1) (tp + 1) e) pos pos with
  | none =>
    rw [E1] at E
    cases E
  | some q =>
    rw [E1] at E
    dsimp only at E
    obtain ⟨q1, q2⟩ := q
    unfold wpX_place
    refine nm_r (e' := nI (41 - tp)) ?_ ?_
    · rw [hF.1]
      show nI (42 - tp) - nI 1 = _
      rw [pk_sub (by omega)]
      rw [show 42 - tp - 1 = 41 - tp by omega]
    · rw [c1]
      refine ⟨pk_in (41 - tp) 43 (by omega), nm_r hs ?_⟩
      refine zq_wset (by omega) (zq_Rmk (tp := tp + 1) hC ⟨by rw [show 42 - (tp + 1) = 41 - tp by omega], hF.2.1, hF.2.2.1, hF.2.2.2.1, hF.2.2.2.2.1, hF.2.2.2.2.2.1, by omega, by omega, hF.2.2.2.2.2.2.2.2⟩ h1 h2 h3 h9 g1 g2 g3 hN hE hK) hk hm (fun u1 k1 => ?_)
      obtain ⟨sp1, rt1, en1, cp1, rm1, xA1, xL1, xH1, a11, a21, a31, a41, a51, a61, a71, a81, a91, a101, a111, a121, a131, a141, a151, a161, a171, a181, a191⟩ := u1
      refine zq_wiso k1 hpos hpos E1 (fun u2 k2 _ => ?_)
      obtain ⟨sp2, rt2, en2, cp2, rm2, xA2, xL2, xH2, a12, a22, a32, a42, a52, a62, a72, a82, a92, a102, a112, a122, a132, a142, a152, a162, a172, a182, a192⟩ := u2
      refine zq_whang (by omega) k2 (fun u3 k3 => ?_)
      obtain ⟨sp3, rt3, en3, cp3, rm3, xA3, xL3, xH3, a13, a23, a33, a43, a53, a63, a73, a83, a93, a103, a113, a123, a133, a143, a153, a163, a173, a183, a193⟩ := u3
      exact nm_e (hq _ (zq_winc k3 E))
theorem zq_winsert {post : Int32 → St2 → Prop} {c : Nat} {W : Nat → Nat × Int} {t t1 : zq_T} {u : St2} {pos e : Nat} (h : zq_R c W t u) (htp : zq_tp t ≤ 5) (hpos : pos ≤ zq_e0 t) (he : zq_e0 t < 10) (hm : -(c : Int) ≤ (W e).2 ∧ (W e).2 ≤ (c : Int)) (E : zq_place t pos e = some t1)
    (hq : ∀ u', zq_R c W t1 u' → post (nI (zq_e0 t1)) u') : wpX_insert post u (nI pos) (nI (W e).1) (zq_Z (W e).2) := by
  obtain ⟨L, R, U, V, I, S, r0, e0, tp⟩ := t
  obtain ⟨sp, rt, en, cp, rm, xA, xL, xH, a1, a2, a3, a4, a5, a6, a7, a8, a9, a10, a11, a12, a13, a14, a15, a16, a17, a18, a19⟩ := u
  obtain ⟨hC, hF, h1, h2, h3, h9, g1, g2, g3, hN, hE, hK⟩ := zq_Rel h
  have he' : e0 < 10 := he
  have hpos' : pos ≤ e0 := hpos
  have v := hC.2.2 e
  obtain ⟨v1, v2, v3, v4⟩ := v
  obtain ⟨m1, m2⟩ := hm
  have c7 := hC.2.1
  have f3 : en = nI e0 := hF.2.2.1
  have f4 : cp = nI c := hF.2.2.2.1
  have f5 : rm = nI 10 := hF.2.2.2.2.1
  have main : ∀ z : Int, z ≤ (W e).2 → -100 ≤ z → z ≤ 100 → wX_insert_53 post (nI pos) (nI (W e).1) (zq_Z (W e).2) (zq_Z z) sp rt en cp rm xA xL xH a1 a2 a3 a4 a5 a6 a7 a8 a9 a10 a11 a12 a13 a14 a15 a16 a17 a18 a19 := by
    intro z z1 z2 z3
    unfold wX_insert_53
    refine zq_lt (W e).2 z rfl rfl ⟨by omega, by omega⟩ ⟨by omega, by omega⟩ (fun q => absurd q (by omega)) (fun _ => zq_le (W e).2 (c : Int) rfl (by rw [f4, zq_nI]) ⟨by omega, by omega⟩ ⟨by omega, by omega⟩ (fun _ => ?_) (fun q => absurd q (by omega)))
    refine zq_wplace h (by omega) rfl rfl htp E (fun u1 k1 => ?_)
    obtain ⟨sp1, rt1, en1, cp1, rm1, xA1, xL1, xH1, a11, a21, a31, a41, a51, a61, a71, a81, a91, a101, a111, a121, a131, a141, a151, a161, a171, a181, a191⟩ := u1
    have r := hq _ k1
    obtain ⟨M1, M2, M3, M4, M5, M6, N1, N2, N3⟩ := t1
    have f : en1 = nI N2 := (zq_Rel k1).2.1.2.2.1
    dsimp only
    rw [f] at r ⊢
    exact r
  unfold wpX_insert
  refine pk_eq e0 10 (fun q => absurd q (by omega)) (fun _ => pk_lt pos 0 (fun q => absurd q (by omega)) (fun _ => pk_le pos e0 (fun _ => pk_lt (W e).1 0 (fun q => absurd q (by omega)) (fun _ => pk_le (W e).1 3 (fun _ => pk_eq (W e).1 0 (fun k0 => ?_) (fun k0 => ?_)) (fun q => absurd q (by omega)))) (fun q => absurd q (by omega)) rfl f3)) f3 f5
  · have g := main (-(c : Int)) m1 (by omega) (by omega)
    have ne : - cp = zq_Z (-(c : Int)) := by
      rw [f4, zq_nI c, zq_neg]
    rw [ne]
    exact g
  · refine main 0 ?_ (by omega) (by omega)
    rcases v4 with v4 | v4
    · exact absurd v4 k0
    · exact v4.1
theorem zq_wgood {post : Int32 → Prop} {c : Nat} {W : Nat → Nat × Int} {t : zq_T} {u : St2} {a b : Nat} (h : zq_R c W t u) (hab : a ≤ b) (hb : b ≤ zq_e0 t) (hq : post 1) : wpX_good post u (nI a) (nI b) := by
  obtain ⟨L, R, U, V, I, S, r0, e0, tp⟩ := t
  obtain ⟨sp, rt, en, cp, rm, xA, xL, xH, a1, a2, a3, a4, a5, a6, a7, a8, a9, a10, a11, a12, a13, a14, a15, a16, a17, a18, a19⟩ := u
  have hF := (zq_Rel h).2.1
  have hb' : b ≤ e0 := hb
  have f3 : en = nI e0 := hF.2.2.1
  have e10 := hF.2.2.2.2.2.2.2.2
  unfold wpX_good
  exact pk_lt a 0 (fun q => absurd q (by omega)) (fun _ => pk_lt b a (fun q => absurd q (by omega)) (fun _ => pk_lt e0 b (fun q => absurd q (by omega)) (fun _ => hq) f3))
def zq_move (t : zq_T) (a b d : Nat) : Option zq_T := match zq_iso t a b with
  | none => none
  | some q => match zq_iso (zq_hang q.1 0) d d with
    | none => none
    | some p => some (zq_hang p.1 q.2)
theorem zq_wmove {post : Int32 → St2 → Prop} {c : Nat} {W : Nat → Nat × Int} {t t1 : zq_T} {u : St2} {a b d : Nat} (h : zq_R c W t u) (hab : a < b) (hb : b ≤ zq_e0 t) (hd : d + b ≤ zq_e0 t + a) (E : zq_move t a b d = some t1) (hq : ∀ u', zq_R c W t1 u' → post (nI (b - a)) u') : wpX_move post u (nI a) (nI b) (nI d) := by
  unfold zq_move at E
  cases E1 : zq_iso t a b with
  | none =>
    rw [E1] at E
    cases E
  | some q =>
    rw [E1] at E
    dsimp only at E
    obtain ⟨q1, q2⟩ := q
    dsimp only at E
    cases E2 : zq_iso (zq_hang q1 0) d d with
    | none =>
      rw [E2] at E
      cases E
    | some p =>
      rw [E2] at E
      dsimp only at E
      obtain ⟨p1, p2⟩ := p
      cases E
      have hF : zq_e0 t ≤ 10 := by
        obtain ⟨L, R, U, V, I, S, r0, e0, tp⟩ := t
        obtain ⟨sp, rt, en, cp, rm, xA, xL, xH, a1, a2, a3, a4, a5, a6, a7, a8, a9, a10, a11, a12, a13, a14, a15, a16, a17, a18, a19⟩ := u
        exact (zq_Rel h).2.1.2.2.2.2.2.2.2.2
      have good := fun (P : Int32 → Prop) (hP : P 1) => zq_wgood (post := P) h (Nat.le_of_lt hab) hb hP
      obtain ⟨L, R, U, V, I, S, r0, e0, tp⟩ := t
      obtain ⟨sp, rt, en, cp, rm, xA, xL, xH, a1, a2, a3, a4, a5, a6, a7, a8, a9, a10, a11, a12, a13, a14, a15, a16, a17, a18, a19⟩ := u
      have f3 : en = nI e0 := (zq_Rel h).2.1.2.2.1
      have hb' : b ≤ e0 := hb
      have hd' : d + b ≤ e0 + a := hd
      have h10 : e0 ≤ 10 := hF
      unfold wpX_move
      refine good _ ?_
      dsimp only
      refine br_f (by decide) (nm_r (pk_sub (Nat.le_of_lt hab)) (pk_lt d 0 (fun q => absurd q (by omega)) (fun _ => pk_le d (e0 - (b - a)) (fun _ => pk_eq (b - a) 0 (fun q => absurd q (by omega)) (fun _ => ?_)) (fun q => absurd q (by omega)) rfl ?_)))
      · refine zq_wiso h (by omega) (by omega) E1 (fun u1 k1 z7 => ?_)
        obtain ⟨sp1, rt1, en1, cp1, rm1, xA1, xL1, xH1, a11, a21, a31, a41, a51, a61, a71, a81, a91, a101, a111, a121, a131, a141, a151, a161, a171, a181, a191⟩ := u1
        refine zq_whang (n := 0) (by decide) k1 (fun u2 k2 => ?_)
        obtain ⟨sp2, rt2, en2, cp2, rm2, xA2, xL2, xH2, a12, a22, a32, a42, a52, a62, a72, a82, a92, a102, a112, a122, a132, a142, a152, a162, a172, a182, a192⟩ := u2
        refine zq_wiso k2 (by omega) (by omega) E2 (fun u3 k3 _ => ?_)
        obtain ⟨sp3, rt3, en3, cp3, rm3, xA3, xL3, xH3, a13, a23, a33, a43, a53, a63, a73, a83, a93, a103, a113, a123, a133, a143, a153, a163, a173, a183, a193⟩ := u3
        refine zq_whang z7 k3 (fun u4 k4 => ?_)
        obtain ⟨sp4, rt4, en4, cp4, rm4, xA4, xL4, xH4, a14, a24, a34, a44, a54, a64, a74, a84, a94, a104, a114, a124, a134, a144, a154, a164, a174, a184, a194⟩ := u4
        exact hq _ k4
      · rw [f3, pk_sub (by omega)]
theorem zq_wload {post : St2 → Prop} {c : Nat} {W : Nat → Nat × Int} {t t1 : zq_T} {u : St2} {a b x : Nat} (h : zq_R c W t u) (ha : a ≤ 900) (hb : b ≤ 900) (E : zq_iso t a b = some (t1, x)) (hx : (zq_S t1 x).length ≤ 20)
    (hq : ∀ (sp rt en cp rm xA xL xH : Int32) (a1 a2 a3 a4 a5 a6 a7 a8 a9 a10 a11 a12 a13 a14 a15 a16 a17 a18 a19 : Nat → Int32), zq_R c W t1 (sp, rt, en, cp, rm, xA, xL, xH, a1, a2, a3, a4, a5, a6, a7, a8, a9, a10, a11, a12, a13, a14, a15, a16, a17, a18, a19) → (xA, xL, xH) = zq_cd (zq_eff c W (zq_S t1 x)) → post (sp, rt, en, cp, rm, xA, xL, xH, a1, a2, a3, a4, a5, a6, a7, a8, a9, a10, a11, a12, a13, a14, a15, a16, a17, a18, a19)) : wpX_load post u (nI a) (nI b) := by
  obtain ⟨sp, rt, en, cp, rm, xA, xL, xH, a1, a2, a3, a4, a5, a6, a7, a8, a9, a10, a11, a12, a13, a14, a15, a16, a17, a18, a19⟩ := u
  unfold wpX_load
  refine zq_wiso h ha hb E (fun u1 k1 z7 => ?_)
  obtain ⟨sp1, rt1, en1, cp1, rm1, xA1, xL1, xH1, a11, a21, a31, a41, a51, a61, a71, a81, a91, a101, a111, a121, a131, a141, a151, a161, a171, a181, a191⟩ := u1
  obtain ⟨L, R, U, V, I, S, r0, e0, tp⟩ := t1
  obtain ⟨hC, hF, h1, h2, h3, h9, g1, g2, g3, hN, hE, hK⟩ := zq_Rel k1
  have cx : (nI (x * 4 + 2)).toNatClampNeg = x * 4 + 2 := nI_clamp (by omega)
  have inx : vp_in (nI (x * 4 + 2)) 172 := pk_in (x * 4 + 2) 172 (by omega)
  dsimp only
  refine nm_r (zq_ix x 2) ?_
  rw [cx]
  refine ⟨inx, nm_e ⟨inx, nm_e ⟨inx, nm_e ?_⟩⟩⟩
  exact hq _ _ _ _ _ _ _ _ _ _ _ _ _ _ _ _ _ _ _ _ _ _ _ _ _ _ _ (zq_Rmk hC hF h1 h2 h3 h9 g1 g2 g3 hN hE hK) ((hE x z7).2.2 hx)
end
section
/-! the trees that occur, the constructor -/
def zq_f (l : List Nat) : Nat → Nat := fun i => l.getD i 0
def zq_g (l : List (List Nat)) : Nat → List Nat := fun i => l.getD i []
def zq_mk (l r u v i : List Nat) (s : List (List Nat)) (a b c : Nat) : zq_T := (zq_f l, zq_f r, zq_f u, zq_f v, zq_f i, zq_g s, a, b, c)
def zq_t0 : zq_T := zq_mk [0, 0, 0, 0, 0, 0, 0] [0, 2, 0, 0, 0, 0, 0] [0, 0, 1, 0, 0, 0, 0] [0, 2, 2, 0, 0, 0, 0] [0, 0, 0, 0, 0, 0, 0] [[], [0, 0], [0], [], [], [], []] 1 0 2
def zq_t1 : zq_T := zq_mk [0, 0, 3, 0, 0, 0, 0] [0, 2, 0, 0, 0, 0, 0] [0, 0, 1, 2, 0, 0, 0] [0, 2, 2, 2, 0, 0, 0] [0, 0, 0, 1, 0, 0, 0] [[], [0, 1, 0], [1, 0], [1], [], [], []] 1 1 3
def zq_t2 : zq_T := zq_mk [0, 0, 4, 1, 0, 0, 0] [0, 0, 0, 2, 0, 0, 0] [0, 3, 3, 0, 2, 0, 0] [0, 2, 2, 2, 2, 0, 0] [0, 0, 0, 1, 2, 0, 0] [[], [0], [2, 0], [0, 1, 2, 0], [2], [], []] 3 2 4
def zq_t3 : zq_T := zq_mk [0, 0, 5, 1, 3, 0, 0] [0, 0, 0, 0, 2, 0, 0] [0, 3, 4, 4, 0, 2, 0] [0, 2, 2, 2, 2, 2, 0] [0, 0, 0, 1, 2, 3, 0] [[], [0], [3, 0], [0, 1], [0, 1, 2, 3, 0], [3], []] 4 3 5
def zq_t4 : zq_T := zq_mk [0, 0, 6, 1, 3, 4, 0] [0, 0, 0, 0, 0, 2, 0] [0, 3, 5, 4, 5, 0, 2] [0, 2, 2, 2, 2, 2, 2] [0, 0, 0, 1, 2, 3, 4] [[], [0], [4, 0], [0, 1], [0, 1, 2], [0, 1, 2, 3, 4, 0], [4]] 5 4 6
def zq_t5 : zq_T := zq_mk [0, 0, 0, 6, 0, 4, 0] [0, 3, 0, 5, 0, 2, 0] [0, 0, 5, 1, 5, 3, 3] [0, 2, 2, 2, 2, 2, 2] [0, 0, 0, 1, 2, 3, 4] [[], [0, 4, 1, 2, 3, 0], [0], [4, 1, 2, 3, 0], [2], [2, 3, 0], [4]] 1 4 6
def zq_tF : zq_T := zq_mk [0, 0, 5, 6, 0, 3, 0] [0, 2, 0, 4, 0, 0, 0] [0, 0, 1, 5, 3, 2, 3] [0, 2, 2, 2, 2, 2, 2] [0, 0, 0, 1, 2, 3, 4] [[], [0, 4, 1, 2, 3, 0], [4, 1, 2, 3, 0], [4, 1, 2], [2], [4, 1, 2, 3], [4]] 1 4 6
def zq_same (t q : zq_T) : Bool := (List.range 7).all (fun i => t.1 i == q.1 i && (t.2.1 i == q.2.1 i && (t.2.2.1 i == q.2.2.1 i && (t.2.2.2.1 i == q.2.2.2.1 i && (t.2.2.2.2.1 i == q.2.2.2.2.1 i && t.2.2.2.2.2.1 i == q.2.2.2.2.2.1 i))))) && (t.2.2.2.2.2.2.1 == q.2.2.2.2.2.2.1 && (t.2.2.2.2.2.2.2.1 == q.2.2.2.2.2.2.2.1 && t.2.2.2.2.2.2.2.2 == q.2.2.2.2.2.2.2.2))
theorem zq_Rsame {c : Nat} {W : Nat → Nat × Int} {t q : zq_T} {u : St2} (e : zq_same t q = true) (h : zq_R c W t u) : zq_R c W q u := by
  obtain ⟨L, R, U, V, I, S, r0, e0, tp⟩ := t
  obtain ⟨L', R', U', V', I', S', r0', e0', tp'⟩ := q
  obtain ⟨sp, rt, en, cp, rm, xA, xL, xH, a1, a2, a3, a4, a5, a6, a7, a8, a9, a10, a11, a12, a13, a14, a15, a16, a17, a18, a19⟩ := u
  obtain ⟨hC, hF, h1, h2, h3, h9, g1, g2, g3, hN, hE, hK⟩ := zq_Rel h
  unfold zq_same at e
  simp only [Bool.and_eq_true, List.all_eq_true, beq_iff_eq, List.mem_range] at e
  obtain ⟨k, q1, q2, q3⟩ := e
  subst q1 q2 q3
  refine zq_Rmk hC hF (fun i hi => ?_) (fun i hi => ?_) (fun i hi => ?_) (fun i hi => ?_) (fun i hi => ?_) (fun i hi => ?_) (fun i hi => ?_) (fun i hi => ?_) (fun i hi => ?_) hK
  · rw [← (k i hi).1]
    exact h1 i hi
  · rw [← (k i hi).2.1]
    exact h2 i hi
  · rw [← (k i hi).2.2.1]
    exact h3 i hi
  · rw [← (k i hi).2.2.2.1]
    exact h9 i hi
  · rw [← (k i hi).1]
    exact g1 i hi
  · rw [← (k i hi).2.1]
    exact g2 i hi
  · rw [← (k i hi).2.2.1]
    exact g3 i hi
  · rw [← (k i hi).2.2.2.2.1]
    exact hN i hi
  · rw [← (k i hi).2.2.2.2.2]
    exact hE i hi
theorem zq_same_e {t q : zq_T} (e : zq_same t q = true) : zq_e0 t = zq_e0 q := by
  unfold zq_same at e
  simp only [Bool.and_eq_true, List.all_eq_true, beq_iff_eq, List.mem_range] at e
  exact e.2.2.1
theorem zq_same_S {t q : zq_T} (e : zq_same t q = true) {i : Nat} (hi : i < 7) : zq_S t i = zq_S q i := by
  unfold zq_same at e
  simp only [Bool.and_eq_true, List.all_eq_true, beq_iff_eq, List.mem_range] at e
  exact (e.1 i hi).2.2.2.2.2
def zq_chk (o : Option zq_T) (q : zq_T) : Bool := match o with
  | none => false
  | some t => zq_same t q
theorem zq_chk_inv {o : Option zq_T} {q : zq_T} (e : zq_chk o q = true) : ∃ t, o = some t ∧ zq_same t q = true := by
  cases o with
  | none => cases e
  | some t => exact ⟨t, rfl, e⟩
def zq_chk2 (o : Option (zq_T × Nat)) (q : zq_T) (x : Nat) : Bool := match o with
  | none => false
  | some t => zq_same t.1 q && t.2 == x
theorem zq_chk2_inv {o : Option (zq_T × Nat)} {q : zq_T} {x : Nat} (e : zq_chk2 o q x = true) : ∃ t, o = some (t, x) ∧ zq_same t q = true := by
  cases o with
  | none => cases e
  | some t =>
    have e' : (zq_same t.1 q && t.2 == x) = true := e
    rw [Bool.and_eq_true, beq_iff_eq] at e'
    refine ⟨t.1, ?_, e'.1⟩
    rw [← e'.2]
theorem zq_s1 : zq_chk (zq_place zq_t0 0 1) zq_t1 = true := by decide +kernel
theorem zq_s2 : zq_chk (zq_place zq_t1 1 2) zq_t2 = true := by decide +kernel
theorem zq_s3 : zq_chk (zq_place zq_t2 2 3) zq_t3 = true := by decide +kernel
theorem zq_s4 : zq_chk (zq_place zq_t3 3 4) zq_t4 = true := by decide +kernel
theorem zq_s5 : zq_chk (zq_move zq_t4 3 4 0) zq_t5 = true := by decide +kernel
theorem zq_s6 : zq_chk2 (zq_iso zq_t5 0 4) zq_tF 5 = true := by decide +kernel
theorem zq_s7 : zq_chk2 (zq_iso zq_tF 0 4) zq_tF 5 = true := by decide +kernel
def zq_ti : zq_T := (fun _ => 0, fun _ => 0, fun _ => 0, fun _ => 0, fun _ => 0, fun _ => [], 0, 0, 2)
def zq_f1 (t : zq_T) : zq_T := match t with
  | (L, R, U, V, I, S, r0, e0, tp) => (L, zq_up R 1 2, zq_up U 2 1, V, I, S, r0, e0, tp)
def zq_f2 (t : zq_T) : zq_T := match t with
  | (L, R, U, V, I, S, r0, e0, tp) => (L, R, U, V, I, S, 1, e0, tp)
theorem zq_s0 : zq_same (zq_f2 (zq_pull (zq_f1 (zq_set (zq_set zq_ti 1 0) 2 0)) 1)) zq_t0 = true := by decide +kernel
theorem zq_wf1 {c : Nat} {W : Nat → Nat × Int} {t : zq_T} {sp rt en cp rm xA xL xH : Int32} {a1 a2 a3 a4 a5 a6 a7 a8 a9 a10 a11 a12 a13 a14 a15 a16 a17 a18 a19 : Nat → Int32} (h : zq_R c W t (sp, rt, en, cp, rm, xA, xL, xH, a1, a2, a3, a4, a5, a6, a7, a8, a9, a10, a11, a12, a13, a14, a15, a16, a17, a18, a19)) : zq_R c W (zq_f1 t) (sp, rt, en, cp, rm, xA, xL, xH, a1, upd a2 1 2, upd a3 2 1, a4, a5, a6, a7, a8, a9, a10, a11, a12, a13, a14, a15, a16, a17, a18, a19) := by
  obtain ⟨L, R, U, V, I, S, r0, e0, tp⟩ := t
  obtain ⟨hC, hF, h1, h2, h3, h9, g1, g2, g3, hN, hE, hK⟩ := zq_Rel h
  exact zq_Rmk hC hF h1 (zq_Au h2 rfl) (zq_Au h3 rfl) h9 g1 (zq_Gu g2 (by decide)) (zq_Gu g3 (by decide)) hN hE hK
theorem zq_wf2 {c : Nat} {W : Nat → Nat × Int} {t : zq_T} {sp rt en cp rm xA xL xH : Int32} {a1 a2 a3 a4 a5 a6 a7 a8 a9 a10 a11 a12 a13 a14 a15 a16 a17 a18 a19 : Nat → Int32} (h : zq_R c W t (sp, rt, en, cp, rm, xA, xL, xH, a1, a2, a3, a4, a5, a6, a7, a8, a9, a10, a11, a12, a13, a14, a15, a16, a17, a18, a19)) : zq_R c W (zq_f2 t) (sp, 1, en, cp, rm, xA, xL, xH, a1, a2, a3, a4, a5, a6, a7, a8, a9, a10, a11, a12, a13, a14, a15, a16, a17, a18, a19) := by
  obtain ⟨L, R, U, V, I, S, r0, e0, tp⟩ := t
  obtain ⟨hC, hF, h1, h2, h3, h9, g1, g2, g3, hN, hE, hK⟩ := zq_Rel h
  exact zq_Rmk hC ⟨hF.1, rfl, hF.2.2.1, hF.2.2.2.1, hF.2.2.2.2.1, by decide, hF.2.2.2.2.2.2⟩ h1 h2 h3 h9 g1 g2 g3 hN hE hK
theorem zq_fill {f s : Nat → Int32} {i k : Nat} {x : Int32} (hk : k = i) (h : ∀ j, j < i → s j = f j) (hx : x = f i) : ∀ j, j < i + 1 → upd s k x j = f j := by
  intro j hj
  rw [hk]
  by_cases e : j = i
  · rw [e, pk_us, hx]
  · rw [pk_un e]
    exact h j (by omega)
theorem zq_i209 {post : St2 → Prop} {mc ms c : Nat} {W : Nat → Nat × Int} {s15 : Nat → Int32} (hC : zq_C c W) (hW : W 0 = (0, 0)) (h15 : ∀ j, j < 172 → s15 j = nI c) (hq : ∀ u', zq_R c W zq_t0 u' → post u') :
    ∃ fu, wX_init_209 post mc ms 19 1195 0 0 (nI c) (nI 10) 0 0 0 fu 42 0 (fun _ => 0) (fun _ => 0) (fun _ => 0) (fun _ => 0) (fun _ => 0) (fun _ => 0) (fun _ => 0) (fun _ => 0) (fun _ => 0) (fun _ => 0) (fun _ => 0) (fun _ => 0) (fun _ => 0) (fun _ => 0) s15 (fun _ => 0) (fun _ => 0) (fun _ => 0) (fun _ => 0) := by
  refine pk_loop (fun n i s => wX_init_209 post mc ms 19 1195 0 0 (nI c) (nI 10) 0 0 0 n (nI (42 - i)) (nI i) (fun _ => 0) (fun _ => 0) (fun _ => 0) (fun _ => 0) (fun _ => 0) (fun _ => 0) (fun _ => 0) (fun _ => 0) (fun _ => 0) (fun _ => 0) (fun _ => 0) (fun _ => 0) (fun _ => 0) (fun _ => 0) s15 s (fun _ => 0) (fun _ => 0) (fun _ => 0)) (fun i s => ∀ j, j < i → s j = nI (42 - j)) 40 0 (fun _ => 0) (by omega) (fun j hj => absurd hj (by omega)) ?_ ?_
  · intro n s hs
    refine pk_le 2 2 (fun _ => ?_) (fun z => absurd z (by omega))
    have hR : zq_R c W zq_ti (nI 40, 0, 0, nI c, nI 10, 0, 0, 0, (fun _ => 0), (fun _ => 0), (fun _ => 0), (fun _ => 0), (fun _ => 0), (fun _ => 0), (fun _ => 0), (fun _ => 0), (fun _ => 0), (fun _ => 0), (fun _ => 0), (fun _ => 0), (fun _ => 0), (fun _ => 0), s15, s, (fun _ => 0), (fun _ => 0), (fun _ => 0)) := by
      refine zq_Rmk hC ⟨rfl, rfl, rfl, rfl, rfl, by decide, by decide, by decide, by decide⟩ (fun i hi => rfl) (fun i hi => rfl) (fun i hi => rfl) (fun i hi => rfl) (fun i hi => by decide) (fun i hi => by decide) (fun i hi => by decide) (fun i hi => ?_) (fun i hi => ⟨rfl, rfl, fun _ => ?_⟩) ⟨fun i hi => ⟨rfl, rfl⟩, hs⟩
      · show (0 : Int32) = nI (W 0).1 ∧ (0 : Int32) = zq_Z (W 0).2
        rw [hW]
        exact ⟨rfl, rfl⟩
      · show ((0 : Int32), (0 : Int32), s15 (i * 4 + 2)) = zq_cd (0, 0, (c : Int))
        rw [h15 _ (by omega), zq_nI]
        rfl
    have k0 : (0 : Int32) = nI (W 0).1 := by
      rw [hW]
      rfl
    have m0 : (0 : Int32) = zq_Z (W 0).2 := by
      rw [hW]
      rfl
    refine zq_wset (n := 1) (e := 0) (by decide) hR k0 m0 (fun u1 k1 => ?_)
    obtain ⟨sp1, rt1, en1, cp1, rm1, xA1, xL1, xH1, a11, a21, a31, a41, a51, a61, a71, a81, a91, a101, a111, a121, a131, a141, a151, a161, a171, a181, a191⟩ := u1
    refine zq_wset (n := 2) (e := 0) (by decide) k1 k0 m0 (fun u2 k2 => ?_)
    obtain ⟨sp2, rt2, en2, cp2, rm2, xA2, xL2, xH2, a12, a22, a32, a42, a52, a62, a72, a82, a92, a102, a112, a122, a132, a142, a152, a162, a172, a182, a192⟩ := u2
    refine nm_e (nm_e (zq_wpull (n := 1) (by decide) (zq_wf1 k2) (fun u3 k3 => ?_)))
    obtain ⟨sp3, rt3, en3, cp3, rm3, xA3, xL3, xH3, a13, a23, a33, a43, a53, a63, a73, a83, a93, a103, a113, a123, a133, a143, a153, a163, a173, a183, a193⟩ := u3
    exact hq _ (zq_Rsame zq_s0 (zq_wf2 k3))
  · intro n i s hi h hw
    refine pk_le (42 - i) 2 (fun z => absurd z (by omega)) (fun _ => ⟨pk_in i 43 (by omega), nm_e (nm_r (nI_1 i) (nm_r (e' := nI (42 - (i + 1))) ?_ (hw _ (zq_fill (nI_clamp (by omega)) h rfl))))⟩)
    rw [show 42 - i = (41 - i) + 1 by omega, pk_m1, show 42 - (i + 1) = 41 - i by omega]
theorem zq_winit {post : St2 → Prop} {mc ms c : Nat} {W : Nat → Nat × Int} (hC : zq_C c W) (hW : W 0 = (0, 0)) (hmc : 19 ≤ mc) (hms : 1195 ≤ ms) (hq : ∀ u', zq_R c W zq_t0 u' → post u') : wpX_init post mc ms (0, 0, 0, 0, 0, 0, 0, 0) (nI c) 10 := by
  have c4 := hC.1
  have c7 := hC.2.1
  unfold wpX_init
  refine ⟨by omega, by omega, by omega, by omega, by omega, by omega, by omega, by omega, by omega, by omega, by omega, by omega, by omega, by omega, by omega, by omega, by omega, by omega, by omega, by omega, by omega, by omega, by omega, by omega, by omega, by omega, by omega, by omega, by omega, by omega, by omega, by omega, by omega, by omega, by omega, by omega, by omega, by omega, zq_clamped (zq_clamped ?_)⟩
  have e1 : zq_cl (nI c) 4 60 = nI c := by
    rw [zq_nI]
    show zq_cl (zq_Z (c : Int)) (zq_Z 4) (zq_Z 60) = zq_Z (c : Int)
    rw [zq_clZ ⟨by omega, by omega⟩ ⟨by omega, by omega⟩ ⟨by omega, by omega⟩, zq_cz_id _ _ _ (by omega) (by omega)]
  have e2 : zq_cl 10 2 40 = nI 10 := by decide
  rw [e1, e2]
  refine pk_loop (fun n i s => wX_init_183 post mc ms 19 1195 0 0 0 (nI c) (nI 10) 0 0 0 n (nI i) (fun _ => 0) (fun _ => 0) (fun _ => 0) (fun _ => 0) (fun _ => 0) (fun _ => 0) (fun _ => 0) (fun _ => 0) (fun _ => 0) (fun _ => 0) (fun _ => 0) (fun _ => 0) (fun _ => 0) (fun _ => 0) s (fun _ => 0) (fun _ => 0) (fun _ => 0) (fun _ => 0)) (fun i s => ∀ j, j < i → s j = nI c) 172 0 (fun _ => 0) (by omega) (fun j hj => absurd hj (by omega)) ?_ ?_
  · intro n s hs
    exact pk_le 172 172 (fun _ => zq_i209 hC hW hs hq) (fun z => absurd z (by omega))
  · intro n i s hi h hw
    exact pk_le 172 i (fun z => absurd z (by omega)) (fun _ => ⟨pk_in i 172 hi, nm_e (nm_r (nI_1 i) (hw _ (zq_fill (f := fun _ => nI c) (nI_clamp (by omega)) h rfl)))⟩)
end
section
/-! the law's arithmetic, no program in sight -/
def zq_ap (e : Int × Int × Int) (x : Int) : Int := zq_cz (x + e.1) e.2.1 e.2.2
theorem zq_ap_comp {c : Int} {e f : Int × Int × Int} (he : zq_ok c e) (hf : zq_ok c f) (x : Int) : zq_ap (zq_comp e f) x = zq_ap f (zq_ap e x) := by
  obtain ⟨e1, e2, e3⟩ := e
  obtain ⟨f1, f2, f3⟩ := f
  obtain ⟨h1, h2, h3⟩ := he
  obtain ⟨k1, k2, k3⟩ := hf
  dsimp only at h1 h2 h3 k1 k2 k3
  unfold zq_ap zq_comp
  dsimp only
  rw [zq_cz_cz (x + e1) f1 e2 e3 f2 f3 h2 k2, Int.add_assoc]
def zq_clo (c p q r u x : Int) : Int := zq_cz (zq_cz (zq_cz (zq_cz (x + p) 0 c) q c + r) 0 c) 0 u
def zq_W (p q r u : Int) : Nat → Nat × Int := fun i => if i = 1 then (1, q) else if i = 2 then (0, r) else if i = 3 then (2, u) else if i = 4 then (0, p) else (0, 0)
def zq_D (c p q r u : Int) : Prop := 4 ≤ c ∧ c ≤ 7 ∧ -c ≤ p ∧ p ≤ c ∧ 0 ≤ q ∧ q ≤ c ∧ -c ≤ r ∧ r ≤ c ∧ 0 ≤ u ∧ u ≤ c
theorem zq_Wval {c p q r u : Int} (h : zq_D c p q r u) (x : Nat) : zq_val c (zq_W p q r u x) := by
  obtain ⟨h1, h2, h3, h4, h5, h6, h7, h8, h9, h10⟩ := h
  unfold zq_W zq_val
  by_cases x1 : x = 1
  · rw [if_pos x1]
    dsimp only
    omega
  · rw [if_neg x1]
    by_cases x2 : x = 2
    · rw [if_pos x2]
      dsimp only
      omega
    · rw [if_neg x2]
      by_cases x3 : x = 3
      · rw [if_pos x3]
        dsimp only
        omega
      · rw [if_neg x3]
        by_cases x4 : x = 4
        · rw [if_pos x4]
          dsimp only
          omega
        · rw [if_neg x4]
          dsimp only
          omega
theorem zq_effW (c p q r u : Int) : zq_eff c (zq_W p q r u) [4, 1, 2, 3] = zq_comp (zq_comp (zq_comp (zq_comp (0, 0, c) (p, 0, c)) (0, q, c)) (r, 0, c)) (0, 0, u) := rfl
theorem zq_eff1 (c p q r u : Int) : (zq_eff c (zq_W p q r u) [4, 1, 2, 3]).1 = p + r := by
  rw [zq_effW]
  show 0 + p + 0 + r + 0 = p + r
  omega
theorem zq_netW (p q r u : Int) : zq_net (zq_W p q r u) [4, 1, 2, 3] = p + r := by
  show p + (0 + (r + (0 + 0))) = p + r
  omega
theorem zq_clo_eff {c p q r u : Int} (h : zq_D c p q r u) {x : Int} (x0 : 0 ≤ x) (xc : x ≤ c) : zq_ap (zq_eff c (zq_W p q r u) [4, 1, 2, 3]) x = zq_clo c p q r u x := by
  obtain ⟨h1, h2, h3, h4, h5, h6, h7, h8, h9, h10⟩ := h
  have o0 : zq_ok c (0, 0, c) := zq_okid (by omega)
  have o1 : zq_ok c (p, 0, c) := ⟨Int.le_refl 0, by dsimp only; omega, Int.le_refl c⟩
  have o2 : zq_ok c (0, q, c) := ⟨h5, h6, Int.le_refl c⟩
  have o3 : zq_ok c (r, 0, c) := ⟨Int.le_refl 0, by dsimp only; omega, Int.le_refl c⟩
  have o4 : zq_ok c (0, 0, u) := ⟨Int.le_refl 0, h9, h10⟩
  rw [zq_effW, zq_ap_comp (zq_ok_comp (zq_ok_comp (zq_ok_comp o0 o1) o2) o3) o4, zq_ap_comp (zq_ok_comp (zq_ok_comp o0 o1) o2) o3, zq_ap_comp (zq_ok_comp o0 o1) o2, zq_ap_comp o0 o1]
  unfold zq_ap zq_clo
  dsimp only
  rw [zq_cz_id (x + 0) 0 c (by omega) (by omega), Int.add_zero, Int.add_zero, Int.add_zero]
theorem zq_clo_in {c p q r u : Int} (h : zq_D c p q r u) (x : Int) : 0 ≤ zq_clo c p q r u x ∧ zq_clo c p q r u x ≤ c := by
  obtain ⟨h1, h2, h3, h4, h5, h6, h7, h8, h9, h10⟩ := h
  have b := zq_cz_in (zq_cz (zq_cz (zq_cz (x + p) 0 c) q c + r) 0 c) 0 u h9
  unfold zq_clo
  omega
/-- the loop over x = 7 .. 0: what it counts, the least opening -/
def zq_cn (c y : Int) (f : Int → Int) : Nat → Int
  | 0 => 0
  | i + 1 => if 7 - (i : Int) ≤ c ∧ f (7 - (i : Int)) = y then zq_cn c y f i + 1 else zq_cn c y f i
def zq_ls (c y : Int) (f : Int → Int) : Nat → Int
  | 0 => -3
  | i + 1 => if 7 - (i : Int) ≤ c ∧ y ≤ f (7 - (i : Int)) then 7 - (i : Int) else zq_ls c y f i
def zq_rs (y : Int) (f : Int → Int) : Nat → Int
  | 0 => y
  | i + 1 => f (zq_rs y f i)
theorem zq_cn_in (c y : Int) (f : Int → Int) (i : Nat) : 0 ≤ zq_cn c y f i ∧ zq_cn c y f i ≤ (i : Int) := by
  induction i with
  | zero => exact ⟨Int.le_refl 0, Int.le_refl 0⟩
  | succ i ih =>
    have e : zq_cn c y f (i + 1) = if 7 - (i : Int) ≤ c ∧ f (7 - (i : Int)) = y then zq_cn c y f i + 1 else zq_cn c y f i := rfl
    rw [e]
    by_cases q : 7 - (i : Int) ≤ c ∧ f (7 - (i : Int)) = y
    · rw [if_pos q]
      omega
    · rw [if_neg q]
      omega
theorem zq_ls_in (c y : Int) (f : Int → Int) (i : Nat) (hi : i ≤ 8) : -3 ≤ zq_ls c y f i ∧ zq_ls c y f i ≤ 7 := by
  induction i with
  | zero =>
    show -3 ≤ (-3 : Int) ∧ (-3 : Int) ≤ 7
    omega
  | succ i ih =>
    have e : zq_ls c y f (i + 1) = if 7 - (i : Int) ≤ c ∧ y ≤ f (7 - (i : Int)) then 7 - (i : Int) else zq_ls c y f i := rfl
    rw [e]
    have := ih (by omega)
    by_cases q : 7 - (i : Int) ≤ c ∧ y ≤ f (7 - (i : Int))
    · rw [if_pos q]
      omega
    · rw [if_neg q]
      omega
/-- openings, as the class reckons it -/
def zq_op (c y A lo hi : Int) : Int := if y < lo then 0 else if y ≤ hi then (if (if 0 ≤ (if y = lo then 0 else y - A) then (if y = lo then 0 else y - A) else 0) ≤ (if (if y = hi then c else y - A) ≤ c then (if y = hi then c else y - A) else c) then (if (if y = hi then c else y - A) ≤ c then (if y = hi then c else y - A) else c) - (if 0 ≤ (if y = lo then 0 else y - A) then (if y = lo then 0 else y - A) else 0) + 1 else 0) else 0
def zq_lo (c y A lo hi : Int) : Int := if lo < y then (if y ≤ hi then (if y - A ≤ c then (if 0 ≤ y - A then y - A else 0) else -3) else -3) else 0
theorem zq_cn_eq {c y A lo hi : Int} {f : Int → Int} (c4 : 4 ≤ c) (c7 : c ≤ 7) (h1 : 0 ≤ lo) (h2 : lo ≤ hi) (h3 : hi ≤ c) (hf : ∀ x, 0 ≤ x → x ≤ c → f x = zq_cz (x + A) lo hi) :
    ∀ i : Nat, i ≤ 8 → zq_cn c y f i = if y < lo ∨ hi < y then 0 else (if (if (if y = lo then 0 else y - A) ≤ 8 - (i : Int) then 8 - (i : Int) else (if y = lo then 0 else y - A)) ≤ (if (if y = hi then c else y - A) ≤ c then (if y = hi then c else y - A) else c) then (if (if y = hi then c else y - A) ≤ c then (if y = hi then c else y - A) else c) - (if (if y = lo then 0 else y - A) ≤ 8 - (i : Int) then 8 - (i : Int) else (if y = lo then 0 else y - A)) + 1 else 0) := by
  intro i
  generalize hF : (if y = lo then 0 else y - A) = F
  generalize hG : (if y = hi then c else y - A) = G
  have hF' : (y = lo ∧ F = 0) ∨ (y ≠ lo ∧ F = y - A) := by
    by_cases q : y = lo
    · rw [if_pos q] at hF
      exact Or.inl ⟨q, hF.symm⟩
    · rw [if_neg q] at hF
      exact Or.inr ⟨q, hF.symm⟩
  have hG' : (y = hi ∧ G = c) ∨ (y ≠ hi ∧ G = y - A) := by
    by_cases q : y = hi
    · rw [if_pos q] at hG
      exact Or.inl ⟨q, hG.symm⟩
    · rw [if_neg q] at hG
      exact Or.inr ⟨q, hG.symm⟩
  induction i with
  | zero =>
    intro _
    show (0 : Int) = _
    by_cases q : y < lo ∨ hi < y
    · rw [if_pos q]
    · rw [if_neg q, if_neg]
      by_cases q1 : G ≤ c
      · rw [if_pos q1]
        by_cases q2 : F ≤ 8 - ((0 : Nat) : Int)
        · rw [if_pos q2]
          omega
        · rw [if_neg q2]
          omega
      · rw [if_neg q1]
        by_cases q2 : F ≤ 8 - ((0 : Nat) : Int)
        · rw [if_pos q2]
          omega
        · rw [if_neg q2]
          omega
  | succ i ih =>
    intro hi8
    have ih' := ih (by omega)
    have e : zq_cn c y f (i + 1) = if 7 - (i : Int) ≤ c ∧ f (7 - (i : Int)) = y then zq_cn c y f i + 1 else zq_cn c y f i := rfl
    rw [e, ih']
    have x8 : 8 - ((i + 1 : Nat) : Int) = 7 - (i : Int) := by omega
    rw [x8]
    by_cases q : 7 - (i : Int) ≤ c
    · have fx := hf (7 - (i : Int)) (by omega) q
      have sp := zq_cz_s (7 - (i : Int) + A) lo hi h2
      rw [← fx] at sp
      generalize f (7 - (i : Int)) = b at *
      generalize hx : 7 - (i : Int) = x at *
      have x9 : 8 - (i : Int) = x + 1 := by omega
      rw [x9]
      by_cases q2 : y < lo ∨ hi < y
      · rw [if_pos q2, if_neg (by omega), if_pos q2]
      · rw [if_neg q2, if_neg q2]
        by_cases q3 : b = y
        · rw [if_pos ⟨q, q3⟩]
          by_cases q4 : G ≤ c <;> by_cases q5 : F ≤ x <;> by_cases q6 : F ≤ x + 1 <;> simp only [q4, q5, q6, if_true, if_false] <;> omega
        · rw [if_neg (fun z => q3 z.2)]
          by_cases q4 : G ≤ c <;> by_cases q5 : F ≤ x <;> by_cases q6 : F ≤ x + 1 <;> simp only [q4, q5, q6, if_true, if_false] <;> omega
    · rw [if_neg (fun z => q z.1)]
      by_cases q2 : y < lo ∨ hi < y
      · rw [if_pos q2, if_pos q2]
      · rw [if_neg q2, if_neg q2]
        by_cases q4 : G ≤ c <;> by_cases q5 : F ≤ 7 - (i : Int) <;> by_cases q6 : F ≤ 8 - (i : Int) <;> simp only [q4, q5, q6, if_true, if_false] <;> omega
theorem zq_cn8 {c y A lo hi : Int} {f : Int → Int} (c4 : 4 ≤ c) (c7 : c ≤ 7) (h1 : 0 ≤ lo) (h2 : lo ≤ hi) (h3 : hi ≤ c) (hf : ∀ x, 0 ≤ x → x ≤ c → f x = zq_cz (x + A) lo hi) : zq_cn c y f 8 = zq_op c y A lo hi := by
  rw [zq_cn_eq c4 c7 h1 h2 h3 hf 8 (by omega)]
  unfold zq_op
  generalize (if y = lo then 0 else y - A) = F
  generalize (if y = hi then c else y - A) = G
  generalize (if G ≤ c then G else c) = H
  have x8 : 8 - ((8 : Nat) : Int) = 0 := by omega
  rw [x8]
  have e : (if F ≤ 0 then 0 else F) = (if 0 ≤ F then F else 0) := by
    by_cases q : F ≤ 0
    · rw [if_pos q]
      by_cases q2 : 0 ≤ F
      · rw [if_pos q2]
        omega
      · rw [if_neg q2]
    · rw [if_neg q, if_pos (by omega)]
  rw [e]
  by_cases q : y < lo
  · rw [if_pos (Or.inl q), if_pos q]
  · rw [if_neg q]
    by_cases q2 : y ≤ hi
    · rw [if_neg (by omega), if_pos q2]
    · rw [if_pos (by omega), if_neg q2]
theorem zq_ls_eq {c y A lo hi : Int} {f : Int → Int} (c4 : 4 ≤ c) (c7 : c ≤ 7) (h1 : 0 ≤ lo) (h2 : lo ≤ hi) (h3 : hi ≤ c) (hf : ∀ x, 0 ≤ x → x ≤ c → f x = zq_cz (x + A) lo hi) :
    ∀ i : Nat, i ≤ 8 → zq_ls c y f i = if y ≤ lo then (if 8 - (i : Int) ≤ c then 8 - (i : Int) else -3) else if hi < y then -3 else (if 8 - (i : Int) ≤ c ∧ y - A ≤ c then (if y - A ≤ 8 - (i : Int) then 8 - (i : Int) else y - A) else -3) := by
  intro i
  induction i with
  | zero =>
    intro _
    show (-3 : Int) = _
    rw [if_neg (show ¬ (8 - ((0 : Nat) : Int) ≤ c) by omega), if_neg (show ¬ (8 - ((0 : Nat) : Int) ≤ c ∧ y - A ≤ c) by omega)]
    by_cases q : y ≤ lo
    · rw [if_pos q]
    · rw [if_neg q]
      by_cases q2 : hi < y
      · rw [if_pos q2]
      · rw [if_neg q2]
  | succ i ih =>
    intro hi8
    have ih' := ih (by omega)
    have e : zq_ls c y f (i + 1) = if 7 - (i : Int) ≤ c ∧ y ≤ f (7 - (i : Int)) then 7 - (i : Int) else zq_ls c y f i := rfl
    rw [e, ih']
    have x8 : 8 - ((i + 1 : Nat) : Int) = 7 - (i : Int) := by omega
    rw [x8]
    by_cases q : 7 - (i : Int) ≤ c
    · have fx := hf (7 - (i : Int)) (by omega) q
      have sp := zq_cz_s (7 - (i : Int) + A) lo hi h2
      rw [← fx] at sp
      generalize f (7 - (i : Int)) = b at *
      generalize hx : 7 - (i : Int) = x at *
      have x9 : 8 - (i : Int) = x + 1 := by omega
      rw [x9]
      by_cases q2 : y ≤ lo
      · rw [if_pos ⟨q, by omega⟩, if_pos q2, if_pos q]
      · rw [if_neg q2, if_neg q2]
        by_cases q3 : hi < y
        · rw [if_pos q3, if_pos q3, if_neg (by omega)]
        · rw [if_neg q3, if_neg q3]
          by_cases q4 : y ≤ b
          · rw [if_pos ⟨q, q4⟩]
            by_cases q5 : y - A ≤ c
            · rw [if_pos ⟨q, q5⟩]
              by_cases q6 : y - A ≤ x
              · rw [if_pos q6]
              · rw [if_neg q6]
                omega
            · rw [if_neg (fun z => q5 z.2)]
              omega
          · rw [if_neg (fun z => q4 z.2)]
            by_cases q5 : y - A ≤ c
            · rw [if_pos (show x ≤ c ∧ y - A ≤ c from ⟨q, q5⟩)]
              by_cases q6 : y - A ≤ x
              · rw [if_pos q6]
                omega
              · rw [if_neg q6]
                by_cases q7 : x + 1 ≤ c
                · rw [if_pos (show x + 1 ≤ c ∧ y - A ≤ c from ⟨q7, q5⟩)]
                  by_cases q8 : y - A ≤ x + 1
                  · rw [if_pos q8]
                    omega
                  · rw [if_neg q8]
                · rw [if_neg (show ¬ (x + 1 ≤ c ∧ y - A ≤ c) from fun z => q7 z.1)]
                  omega
            · rw [if_neg (show ¬ (x + 1 ≤ c ∧ y - A ≤ c) from fun z => q5 z.2), if_neg (show ¬ (x ≤ c ∧ y - A ≤ c) from fun z => q5 z.2)]
    · rw [if_neg (show ¬ (7 - (i : Int) ≤ c ∧ y ≤ f (7 - (i : Int))) from fun z => q z.1), if_neg (show ¬ (8 - (i : Int) ≤ c) by omega), if_neg (show ¬ (8 - (i : Int) ≤ c ∧ y - A ≤ c) by omega), if_neg q, if_neg (show ¬ (7 - (i : Int) ≤ c ∧ y - A ≤ c) from fun z => q z.1)]
theorem zq_ls8 {c y A lo hi : Int} {f : Int → Int} (c4 : 4 ≤ c) (c7 : c ≤ 7) (h1 : 0 ≤ lo) (h2 : lo ≤ hi) (h3 : hi ≤ c) (hf : ∀ x, 0 ≤ x → x ≤ c → f x = zq_cz (x + A) lo hi) : zq_ls c y f 8 = zq_lo c y A lo hi := by
  rw [zq_ls_eq c4 c7 h1 h2 h3 hf 8 (by omega)]
  unfold zq_lo
  have x8 : 8 - ((8 : Nat) : Int) = 0 := by omega
  rw [x8]
  by_cases q : y ≤ lo
  · rw [if_pos q, if_pos (by omega), if_neg (by omega)]
  · rw [if_neg q, if_pos (show lo < y by omega)]
    by_cases q2 : y ≤ hi
    · rw [if_neg (by omega), if_pos q2]
      by_cases q3 : y - A ≤ c
      · rw [if_pos ⟨by omega, q3⟩, if_pos q3]
        by_cases q4 : 0 ≤ y - A
        · rw [if_pos q4]
          by_cases q5 : y - A ≤ 0
          · rw [if_pos q5]
            omega
          · rw [if_neg q5]
        · rw [if_neg q4, if_pos (by omega)]
      · rw [if_neg (fun z => q3 z.2), if_neg q3]
    · rw [if_pos (by omega), if_neg q2]
theorem zq_rs_in {c y : Int} {f : Int → Int} (y0 : 0 ≤ y) (yc : y ≤ c) (hf : ∀ x, 0 ≤ f x ∧ f x ≤ c) (i : Nat) : 0 ≤ zq_rs y f i ∧ zq_rs y f i ≤ c := by
  cases i with
  | zero => exact ⟨y0, yc⟩
  | succ i => exact hf _
theorem zq_rs_eq {c y A lo hi : Int} {f : Int → Int} (c4 : 4 ≤ c) (c7 : c ≤ 7) (h1 : 0 ≤ lo) (h2 : lo ≤ hi) (h3 : hi ≤ c) (y0 : 0 ≤ y) (yc : y ≤ c) (hb : ∀ x, 0 ≤ f x ∧ f x ≤ c) (hf : ∀ x, 0 ≤ x → x ≤ c → f x = zq_cz (x + A) lo hi) :
    ∀ i : Nat, (0 < A → hi ≤ zq_rs y f i ∨ (i : Int) ≤ zq_rs y f i) ∧ (A < 0 → zq_rs y f i ≤ lo ∨ zq_rs y f i ≤ 7 - (i : Int)) ∧ (A = 0 → zq_cz (zq_rs y f i) lo hi = zq_cz y lo hi) := by
  intro i
  induction i with
  | zero =>
    refine ⟨fun _ => Or.inr ?_, fun _ => Or.inr ?_, fun _ => rfl⟩
    · show ((0 : Nat) : Int) ≤ y
      omega
    · show y ≤ 7 - ((0 : Nat) : Int)
      omega
  | succ i ih =>
    obtain ⟨i1, i2, i3⟩ := ih
    have b := zq_rs_in y0 yc hb i
    have e : zq_rs y f (i + 1) = zq_cz (zq_rs y f i + A) lo hi := hf _ b.1 b.2
    have s := zq_cz_s (zq_rs y f i + A) lo hi h2
    rw [← e] at s
    refine ⟨fun a => ?_, fun a => ?_, fun a => ?_⟩
    · have := i1 a
      omega
    · have := i2 a
      omega
    · rw [e, a, Int.add_zero]
      have k := zq_cz_in (zq_rs y f i) lo hi h2
      rw [zq_cz_id _ _ _ k.1 k.2]
      exact i3 a
theorem zq_rs8 {c y A lo hi : Int} {f : Int → Int} (c4 : 4 ≤ c) (c7 : c ≤ 7) (h1 : 0 ≤ lo) (h2 : lo ≤ hi) (h3 : hi ≤ c) (y0 : 0 ≤ y) (yc : y ≤ c) (hb : ∀ x, 0 ≤ f x ∧ f x ≤ c) (hf : ∀ x, 0 ≤ x → x ≤ c → f x = zq_cz (x + A) lo hi) :
    (0 < A → zq_rs y f 8 = hi) ∧ (A < 0 → zq_rs y f 8 = lo) ∧ (A = 0 → zq_rs y f 8 = zq_cz y lo hi) := by
  obtain ⟨i1, i2, i3⟩ := zq_rs_eq c4 c7 h1 h2 h3 y0 yc hb hf 8
  have b := zq_rs_in y0 yc hb 7
  have e : zq_rs y f 8 = zq_cz (zq_rs y f 7 + A) lo hi := hf _ b.1 b.2
  have k := zq_cz_in (zq_rs y f 7 + A) lo hi h2
  rw [← e] at k
  refine ⟨fun a => ?_, fun a => ?_, fun a => ?_⟩
  · have := i1 a
    omega
  · have := i2 a
    omega
  · rw [← i3 a, zq_cz_id _ _ _ k.1 k.2]
end
section
/-! the queries on the tree behind the move; lists of ids: [4, 1, 2, 3] -/
def zq_Q (c : Nat) (W : Nat → Nat × Int) (u : St2) : Prop := zq_R c W zq_t5 u ∨ zq_R c W zq_tF u
theorem zq_Qi {post : Int32 → St2 → Prop} {c : Nat} {W : Nat → Nat × Int} {u : St2} (h : zq_Q c W u) (hq : ∀ u', zq_R c W zq_tF u' → post (nI 5) u') : wpX_isolate post u (nI 0) (nI 4) := by
  rcases h with h | h
  · obtain ⟨t, e, s⟩ := zq_chk2_inv zq_s6
    exact zq_wiso h (by decide) (by decide) e (fun u' h' _ => hq u' (zq_Rsame s h'))
  · obtain ⟨t, e, s⟩ := zq_chk2_inv zq_s7
    exact zq_wiso h (by decide) (by decide) e (fun u' h' _ => hq u' (zq_Rsame s h'))
theorem zq_Qg {post : Int32 → Prop} {c : Nat} {W : Nat → Nat × Int} {u : St2} (h : zq_Q c W u) (hq : post 1) : wpX_good post u (nI 0) (nI 4) := by
  rcases h with h | h
  · exact zq_wgood h (by decide) (by decide) hq
  · exact zq_wgood h (by decide) (by decide) hq
theorem zq_Qc {c : Nat} {W : Nat → Nat × Int} {sp rt en cp rm xA xL xH : Int32} {a1 a2 a3 a4 a5 a6 a7 a8 a9 a10 a11 a12 a13 a14 a15 a16 a17 a18 a19 : Nat → Int32} (h : zq_Q c W (sp, rt, en, cp, rm, xA, xL, xH, a1, a2, a3, a4, a5, a6, a7, a8, a9, a10, a11, a12, a13, a14, a15, a16, a17, a18, a19)) : cp = zq_Z (c : Int) ∧ zq_C c W := by
  rcases h with h | h
  · have k := (zq_Rel h)
    exact ⟨by rw [k.2.1.2.2.2.1, zq_nI], k.1⟩
  · have k := (zq_Rel h)
    exact ⟨by rw [k.2.1.2.2.2.1, zq_nI], k.1⟩
def zq_ef (c : Nat) (W : Nat → Nat × Int) : Int × Int × Int := zq_eff (c : Int) W [4, 1, 2, 3]
theorem zq_efok {c : Nat} {W : Nat → Nat × Int} (hC : zq_C c W) : 0 ≤ (zq_ef c W).2.1 ∧ (zq_ef c W).2.1 ≤ (zq_ef c W).2.2 ∧ (zq_ef c W).2.2 ≤ (c : Int) ∧ -28 ≤ (zq_ef c W).1 ∧ (zq_ef c W).1 ≤ 28 := by
  obtain ⟨h, k1, k2⟩ := zq_effok (c := (c : Int)) (by omega) hC.2.2 [4, 1, 2, 3]
  have l : (([4, 1, 2, 3] : List Nat).length : Int) = 4 := rfl
  rw [l] at k1 k2
  refine ⟨h.1, h.2.1, h.2.2, ?_, ?_⟩
  · have k : - (7 * 4) ≤ (zq_ef c W).1 := k1
    omega
  · have k : (zq_ef c W).1 ≤ 7 * 4 := k2
    omega
theorem zq_Ql {post : St2 → Prop} {c : Nat} {W : Nat → Nat × Int} {u : St2} (h : zq_Q c W u)
    (hq : ∀ (sp rt en cp rm xA xL xH : Int32) (a1 a2 a3 a4 a5 a6 a7 a8 a9 a10 a11 a12 a13 a14 a15 a16 a17 a18 a19 : Nat → Int32), zq_R c W zq_tF (sp, rt, en, cp, rm, xA, xL, xH, a1, a2, a3, a4, a5, a6, a7, a8, a9, a10, a11, a12, a13, a14, a15, a16, a17, a18, a19) → xA = zq_Z (zq_ef c W).1 → xL = zq_Z (zq_ef c W).2.1 → xH = zq_Z (zq_ef c W).2.2 → post (sp, rt, en, cp, rm, xA, xL, xH, a1, a2, a3, a4, a5, a6, a7, a8, a9, a10, a11, a12, a13, a14, a15, a16, a17, a18, a19)) : wpX_load post u (nI 0) (nI 4) := by
  have fin : ∀ t : zq_T, zq_same t zq_tF = true → zq_S t 5 = [4, 1, 2, 3] := fun t s => zq_same_S s (by decide)
  rcases h with h | h
  · obtain ⟨t, e, s⟩ := zq_chk2_inv zq_s6
    have es := fin t s
    refine zq_wload h (by decide) (by decide) e (by rw [es]; decide) ?_
    intro sp rt en cp rm xA xL xH a1 a2 a3 a4 a5 a6 a7 a8 a9 a10 a11 a12 a13 a14 a15 a16 a17 a18 a19 k v
    rw [es] at v
    have v1 : xA = zq_Z (zq_ef c W).1 := congrArg (fun z => z.1) v
    have v2 : xL = zq_Z (zq_ef c W).2.1 := congrArg (fun z => z.2.1) v
    have v3 : xH = zq_Z (zq_ef c W).2.2 := congrArg (fun z => z.2.2) v
    exact hq _ _ _ _ _ _ _ _ _ _ _ _ _ _ _ _ _ _ _ _ _ _ _ _ _ _ _ (zq_Rsame s k) v1 v2 v3
  · obtain ⟨t, e, s⟩ := zq_chk2_inv zq_s7
    have es := fin t s
    refine zq_wload h (by decide) (by decide) e (by rw [es]; decide) ?_
    intro sp rt en cp rm xA xL xH a1 a2 a3 a4 a5 a6 a7 a8 a9 a10 a11 a12 a13 a14 a15 a16 a17 a18 a19 k v
    rw [es] at v
    have v1 : xA = zq_Z (zq_ef c W).1 := congrArg (fun z => z.1) v
    have v2 : xL = zq_Z (zq_ef c W).2.1 := congrArg (fun z => z.2.1) v
    have v3 : xH = zq_Z (zq_ef c W).2.2 := congrArg (fun z => z.2.2) v
    exact hq _ _ _ _ _ _ _ _ _ _ _ _ _ _ _ _ _ _ _ _ _ _ _ _ _ _ _ (zq_Rsame s k) v1 v2 v3
theorem zq_wrun {post : Int32 → St2 → Prop} {c : Nat} {W : Nat → Nat × Int} {u : St2} {x : Int} (h : zq_Q c W u) (x0 : 0 ≤ x) (xc : x ≤ (c : Int)) (hq : ∀ u', zq_R c W zq_tF u' → post (zq_Z (zq_ap (zq_ef c W) x)) u') : wpX_run post u 0 4 (zq_Z x) := by
  obtain ⟨sp, rt, en, cp, rm, xA, xL, xH, a1, a2, a3, a4, a5, a6, a7, a8, a9, a10, a11, a12, a13, a14, a15, a16, a17, a18, a19⟩ := u
  obtain ⟨hcp, hC⟩ := zq_Qc h
  have c7 := hC.2.1
  obtain ⟨f1, f2, f3, f4, f5⟩ := zq_efok hC
  unfold wpX_run
  refine zq_Qg h ?_
  dsimp only
  refine br_f (by decide) (zq_lt x 0 rfl rfl ⟨by omega, by omega⟩ ⟨by omega, by omega⟩ (fun q => absurd q (by omega)) (fun _ => zq_le x (c : Int) rfl hcp ⟨by omega, by omega⟩ ⟨by omega, by omega⟩ (fun _ => ?_) (fun q => absurd q (by omega))))
  refine zq_Ql h ?_
  intro sp rt en cp rm xA xL xH a1 a2 a3 a4 a5 a6 a7 a8 a9 a10 a11 a12 a13 a14 a15 a16 a17 a18 a19 k v1 v2 v3
  refine zq_clamped ?_
  have e : zq_cl (zq_Z x + xA) xL xH = zq_Z (zq_ap (zq_ef c W) x) := by
    rw [v1, v2, v3, zq_add, zq_clZ ⟨by omega, by omega⟩ ⟨by omega, by omega⟩ ⟨by omega, by omega⟩]
    rfl
  rw [e]
  exact hq _ k
theorem zq_rep0 {post : Int32 → St2 → Prop} {x3 x4 : Int32} {sp rt en cp rm xA xL xH : Int32} {a1 a2 a3 a4 a5 a6 a7 a8 a9 a10 a11 a12 a13 a14 a15 a16 a17 a18 a19 : Nat → Int32} (hq : ∀ u', u' = (sp, rt, en, cp, rm, xA, xL, xH, a1, a2, a3, a4, a5, a6, a7, a8, a9, a10, a11, a12, a13, a14, a15, a16, a17, a18, a19) → post (zq_cl (x3 + xA) xL xH) u') :
    ∀ (f i : Nat) (x5 x6 x7 : Int32), i + f = 8 → (∀ j, i ≤ j → j < 8 → ¬ (x4 >>> (nI j &&& 31)) &&& 1 = 1) → wX_repeat_73 post x3 x4 (f + 1) x5 x6 x7 (nI i) sp rt en cp rm xA xL xH a1 a2 a3 a4 a5 a6 a7 a8 a9 a10 a11 a12 a13 a14 a15 a16 a17 a18 a19 := by
  intro f
  induction f with
  | zero =>
    intro i x5 x6 x7 hi _
    have i8 : i = 8 := by omega
    subst i8
    exact pk_le 8 8 (fun _ => zq_clamped (hq _ rfl)) (fun z => absurd z (by omega))
  | succ f ih =>
    intro i x5 x6 x7 hi hb
    refine pk_le 8 i (fun z => absurd z (by omega)) (fun _ => br_f (hb i (Nat.le_refl i) (by omega)) ?_)
    unfold wX_repeat_101
    exact zq_clamped (zq_clamped (nm_e (nm_r (nI_1 i) (ih (i + 1) _ _ _ (by omega) (fun j h1 h2 => hb j (by omega) h2)))))
theorem zq_bits : (∀ j, 2 ≤ j → j < 8 → ¬ ((2 : Int32) >>> (nI j &&& 31)) &&& 1 = 1) ∧ (¬ ((2 : Int32) >>> (nI 0 &&& 31)) &&& 1 = 1) ∧ (((2 : Int32) >>> (nI 1 &&& 31)) &&& 1 = 1) := by
  refine ⟨fun j h1 h2 => ?_, by decide, by decide⟩
  have hj : j = 2 ∨ j = 3 ∨ j = 4 ∨ j = 5 ∨ j = 6 ∨ j = 7 := by omega
  rcases hj with rfl | rfl | rfl | rfl | rfl | rfl <;> decide
theorem zq_wrep {post : Int32 → St2 → Prop} {c : Nat} {W : Nat → Nat × Int} {u : St2} {x : Int} (h : zq_Q c W u) (x0 : 0 ≤ x) (xc : x ≤ (c : Int)) (hq : ∀ u', zq_R c W zq_tF u' → post (zq_Z (zq_ap (zq_ef c W) (zq_ap (zq_ef c W) x))) u') : wpX_repeat post u 0 4 (zq_Z x) 2 := by
  obtain ⟨sp, rt, en, cp, rm, xA, xL, xH, a1, a2, a3, a4, a5, a6, a7, a8, a9, a10, a11, a12, a13, a14, a15, a16, a17, a18, a19⟩ := u
  obtain ⟨hcp, hC⟩ := zq_Qc h
  have c7 := hC.2.1
  have c0 : (0 : Int) ≤ (c : Int) := by omega
  obtain ⟨f1, f2, f3, f4, f5⟩ := zq_efok hC
  unfold wpX_repeat
  refine zq_Qg h ?_
  dsimp only
  refine br_f (by decide) (zq_lt x 0 rfl rfl ⟨by omega, by omega⟩ ⟨by omega, by omega⟩ (fun q => absurd q (by omega)) (fun _ => zq_le x (c : Int) rfl hcp ⟨by omega, by omega⟩ ⟨by omega, by omega⟩ (fun _ => br_f (by decide) (br_t (by decide) ?_)) (fun q => absurd q (by omega))))
  refine zq_Ql h ?_
  intro sp rt en cp rm xA xL xH a1 a2 a3 a4 a5 a6 a7 a8 a9 a10 a11 a12 a13 a14 a15 a16 a17 a18 a19 k v1 v2 v3
  have hcp' : cp = zq_Z (c : Int) := (zq_Qc (Or.inr k)).1
  refine zq_wstart ?_
  obtain ⟨b2, b0, b1⟩ := zq_bits
  refine ⟨9, ?_⟩
  show wX_repeat_73 post (zq_Z x) 2 9 xA xL xH (nI 0) sp rt en cp rm 0 0 cp a1 a2 a3 a4 a5 a6 a7 a8 a9 a10 a11 a12 a13 a14 a15 a16 a17 a18 a19
  refine pk_le 8 0 (fun z => absurd z (by omega)) (fun _ => br_f b0 ?_)
  unfold wX_repeat_101
  refine zq_clamped (zq_clamped (nm_e (nm_r (nI_1 0) ?_)))
  refine pk_le 8 1 (fun z => absurd z (by omega)) (fun _ => br_t b1 (zq_wthen ?_))
  dsimp only
  unfold wX_repeat_101
  refine zq_clamped (zq_clamped (nm_e (nm_r (nI_1 1) ?_)))
  refine zq_rep0 (fun u' hu => ?_) 6 2 _ _ _ (by omega) b2
  have ok : zq_ok (c : Int) (zq_ef c W) := ⟨f1, f2, f3⟩
  have ok2 := zq_ok_comp ok ok
  have okI := zq_okid c0
  have d1 : (zq_comp (zq_ef c W) (zq_ef c W)).1 = (zq_ef c W).1 + (zq_ef c W).1 := rfl
  have ok3 := zq_ok_comp okI ok2
  have d3 : (zq_comp (0, 0, (c : Int)) (zq_comp (zq_ef c W) (zq_ef c W))).1 = 0 + ((zq_ef c W).1 + (zq_ef c W).1) := rfl
  have t2 : zq_th (xA, xL, xH) (xA, xL, xH) = zq_cd (zq_comp (zq_ef c W) (zq_ef c W)) := by
    rw [v1, v2, v3]
    exact zq_thcd (by omega) (by omega) (by omega) (by omega) (by omega) (by omega)
  have ok2' := ok2
  obtain ⟨p1, p2, p3⟩ := ok2'
  have t3 : zq_th (0, 0, cp) (zq_th (xA, xL, xH) (xA, xL, xH)) = zq_cd (zq_comp (0, 0, (c : Int)) (zq_comp (zq_ef c W) (zq_ef c W))) := by
    rw [t2, hcp']
    exact zq_thcd (e := (0, 0, (c : Int))) (by dsimp only; omega) (by dsimp only; omega) (by dsimp only; omega) (by omega) (by omega) (by omega)
  have ok3' := ok3
  obtain ⟨r1, r2, r3⟩ := ok3'
  have e : zq_cl (zq_Z x + (zq_th (0, 0, cp) (zq_th (xA, xL, xH) (xA, xL, xH))).1) (zq_th (0, 0, cp) (zq_th (xA, xL, xH) (xA, xL, xH))).2.1 (zq_th (0, 0, cp) (zq_th (xA, xL, xH) (xA, xL, xH))).2.2 = zq_Z (zq_ap (zq_ef c W) (zq_ap (zq_ef c W) x)) := by
    rw [t3]
    have w : zq_ap (zq_comp (0, 0, (c : Int)) (zq_comp (zq_ef c W) (zq_ef c W))) x = zq_ap (zq_ef c W) (zq_ap (zq_ef c W) x) := by
      rw [zq_ap_comp okI ok2, zq_ap_comp ok ok]
      have i : zq_ap (0, 0, (c : Int)) x = x := by
        unfold zq_ap
        dsimp only
        rw [zq_cz_id (x + 0) 0 c (by omega) (by omega), Int.add_zero]
      rw [i]
    rw [← w]
    show zq_cl (zq_Z x + zq_Z (zq_comp (0, 0, (c : Int)) (zq_comp (zq_ef c W) (zq_ef c W))).1) (zq_Z (zq_comp (0, 0, (c : Int)) (zq_comp (zq_ef c W) (zq_ef c W))).2.1) (zq_Z (zq_comp (0, 0, (c : Int)) (zq_comp (zq_ef c W) (zq_ef c W))).2.2) = _
    rw [zq_add, zq_clZ ⟨by omega, by omega⟩ ⟨by omega, by omega⟩ ⟨by omega, by omega⟩]
    rfl
  have R2 : zq_R c W zq_tF u' := by
    rw [hu]
    have r := zq_Rel k
    obtain ⟨hC, hF, h1, h2, h3, h9, g1, g2, g3, hN, hE, hK⟩ := r
    exact zq_Rmk hC hF h1 h2 h3 h9 g1 g2 g3 hN hE hK
  have g := hq u' R2
  rw [← e] at g
  exact g
theorem zq_wopen {post : Int32 → St2 → Prop} {c : Nat} {W : Nat → Nat × Int} {u : St2} {y : Int} (h : zq_Q c W u) (y0 : 0 ≤ y) (yc : y ≤ (c : Int)) (hq : ∀ u', zq_R c W zq_tF u' → post (zq_Z (zq_op c y (zq_ef c W).1 (zq_ef c W).2.1 (zq_ef c W).2.2)) u') : wpX_openings post u 0 4 (zq_Z y) := by
  obtain ⟨sp, rt, en, cp, rm, xA, xL, xH, a1, a2, a3, a4, a5, a6, a7, a8, a9, a10, a11, a12, a13, a14, a15, a16, a17, a18, a19⟩ := u
  obtain ⟨hcp, hC⟩ := zq_Qc h
  have c7 := hC.2.1
  obtain ⟨f1, f2, f3, f4, f5⟩ := zq_efok hC
  unfold wpX_openings
  refine zq_Qg h ?_
  dsimp only
  refine br_f (by decide) (zq_lt y 0 rfl rfl ⟨by omega, by omega⟩ ⟨by omega, by omega⟩ (fun q => absurd q (by omega)) (fun _ => zq_le y (c : Int) rfl hcp ⟨by omega, by omega⟩ ⟨by omega, by omega⟩ (fun _ => ?_) (fun q => absurd q (by omega))))
  refine zq_Ql h ?_
  intro sp rt en cp rm xA xL xH a1 a2 a3 a4 a5 a6 a7 a8 a9 a10 a11 a12 a13 a14 a15 a16 a17 a18 a19 k v1 v2 v3
  have hcp' : cp = zq_Z (c : Int) := (zq_Qc (Or.inr k)).1
  have Q := hq _ k
  unfold zq_op at Q
  generalize (zq_ef c W).1 = A at *
  generalize (zq_ef c W).2.1 = lo at *
  generalize (zq_ef c W).2.2 = hi at *
  have m116 : ∀ F G : Int, -100 ≤ F → F ≤ 100 → -100 ≤ G → G ≤ 100 → post (zq_Z (if F ≤ G then G - F + 1 else 0)) (sp, rt, en, cp, rm, xA, xL, xH, a1, a2, a3, a4, a5, a6, a7, a8, a9, a10, a11, a12, a13, a14, a15, a16, a17, a18, a19) → wX_openings_116 post (zq_Z F) (zq_Z G) sp rt en cp rm xA xL xH a1 a2 a3 a4 a5 a6 a7 a8 a9 a10 a11 a12 a13 a14 a15 a16 a17 a18 a19 := by
    intro F G b1 b2 b3 b4 hp
    unfold wX_openings_116
    refine zq_le F G rfl rfl ⟨by omega, by omega⟩ ⟨by omega, by omega⟩ (fun q => ?_) (fun q => ?_)
    · rw [if_pos q] at hp
      rw [zq_sub]
      show post (zq_Z (G - F) + zq_Z 1) _
      rw [zq_add]
      exact hp
    · rw [if_neg (by omega)] at hp
      exact hp
  have m101 : ∀ F G : Int, -100 ≤ F → F ≤ 100 → -100 ≤ G → G ≤ 100 → post (zq_Z (if F ≤ (if G ≤ (c : Int) then G else (c : Int)) then (if G ≤ (c : Int) then G else (c : Int)) - F + 1 else 0)) (sp, rt, en, cp, rm, xA, xL, xH, a1, a2, a3, a4, a5, a6, a7, a8, a9, a10, a11, a12, a13, a14, a15, a16, a17, a18, a19) → wX_openings_101 post (zq_Z F) (zq_Z G) sp rt en cp rm xA xL xH a1 a2 a3 a4 a5 a6 a7 a8 a9 a10 a11 a12 a13 a14 a15 a16 a17 a18 a19 := by
    intro F G b1 b2 b3 b4 hp
    unfold wX_openings_101
    refine zq_le G (c : Int) rfl hcp' ⟨by omega, by omega⟩ ⟨by omega, by omega⟩ (fun q => ?_) (fun q => ?_)
    · rw [if_pos q] at hp
      exact m116 F G b1 b2 b3 b4 hp
    · rw [if_neg (show ¬ G ≤ (c : Int) by omega)] at hp
      have r := m116 F (c : Int) b1 b2 (by omega) (by omega) hp
      rw [hcp'] at r ⊢
      exact r
  have m91 : ∀ F G : Int, -100 ≤ F → F ≤ 100 → -100 ≤ G → G ≤ 100 → post (zq_Z (if (if 0 ≤ F then F else 0) ≤ (if G ≤ (c : Int) then G else (c : Int)) then (if G ≤ (c : Int) then G else (c : Int)) - (if 0 ≤ F then F else 0) + 1 else 0)) (sp, rt, en, cp, rm, xA, xL, xH, a1, a2, a3, a4, a5, a6, a7, a8, a9, a10, a11, a12, a13, a14, a15, a16, a17, a18, a19) → wX_openings_91 post (zq_Z F) (zq_Z G) sp rt en cp rm xA xL xH a1 a2 a3 a4 a5 a6 a7 a8 a9 a10 a11 a12 a13 a14 a15 a16 a17 a18 a19 := by
    intro F G b1 b2 b3 b4 hp
    unfold wX_openings_91
    refine zq_le 0 F rfl rfl ⟨by omega, by omega⟩ ⟨by omega, by omega⟩ (fun q => ?_) (fun q => ?_)
    · rw [if_pos q] at hp
      exact m101 F G b1 b2 b3 b4 hp
    · rw [if_neg (show ¬ (0 : Int) ≤ F by omega)] at hp
      exact m101 0 G (by omega) (by omega) b3 b4 hp
  have m68 : ∀ F : Int, -100 ≤ F → F ≤ 100 → post (zq_Z (if (if 0 ≤ F then F else 0) ≤ (if (if y = hi then (c : Int) else y - A) ≤ (c : Int) then (if y = hi then (c : Int) else y - A) else (c : Int)) then (if (if y = hi then (c : Int) else y - A) ≤ (c : Int) then (if y = hi then (c : Int) else y - A) else (c : Int)) - (if 0 ≤ F then F else 0) + 1 else 0)) (sp, rt, en, cp, rm, xA, xL, xH, a1, a2, a3, a4, a5, a6, a7, a8, a9, a10, a11, a12, a13, a14, a15, a16, a17, a18, a19) → wX_openings_68 post (zq_Z y) (zq_Z F) sp rt en cp rm xA xL xH a1 a2 a3 a4 a5 a6 a7 a8 a9 a10 a11 a12 a13 a14 a15 a16 a17 a18 a19 := by
    intro F b1 b2 hp
    unfold wX_openings_68
    refine zq_eq y hi rfl v3 ⟨by omega, by omega⟩ ⟨by omega, by omega⟩ (fun q => ?_) (fun q => ?_)
    · simp only [if_pos q] at hp
      have r := m91 F (c : Int) b1 b2 (by omega) (by omega) hp
      rw [hcp'] at r ⊢
      exact r
    · simp only [if_neg q] at hp
      rw [v1, zq_sub, ← v1]
      exact m91 F (y - A) b1 b2 (by omega) (by omega) hp
  refine zq_lt y lo rfl v2 ⟨by omega, by omega⟩ ⟨by omega, by omega⟩ (fun q => ?_) (fun q => ?_)
  · rw [if_pos q] at Q
    exact Q
  · rw [if_neg (by omega)] at Q
    refine zq_le y hi rfl v3 ⟨by omega, by omega⟩ ⟨by omega, by omega⟩ (fun q2 => ?_) (fun q2 => ?_)
    · rw [if_pos q2] at Q
      refine zq_eq y lo rfl v2 ⟨by omega, by omega⟩ ⟨by omega, by omega⟩ (fun q3 => ?_) (fun q3 => ?_)
      · rw [if_pos q3] at Q
        exact m68 0 (by omega) (by omega) Q
      · rw [if_neg q3] at Q
        rw [v1, zq_sub, ← v1]
        exact m68 (y - A) (by omega) (by omega) Q
    · rw [if_neg (by omega)] at Q
      exact Q
theorem zq_wleast {post : Int32 → St2 → Prop} {c : Nat} {W : Nat → Nat × Int} {u : St2} {y : Int} (h : zq_Q c W u) (y0 : 0 ≤ y) (yc : y ≤ (c : Int)) (hq : ∀ u', zq_R c W zq_tF u' → post (zq_Z (zq_lo c y (zq_ef c W).1 (zq_ef c W).2.1 (zq_ef c W).2.2)) u') : wpX_leastOpening post u 0 4 (zq_Z y) := by
  obtain ⟨sp, rt, en, cp, rm, xA, xL, xH, a1, a2, a3, a4, a5, a6, a7, a8, a9, a10, a11, a12, a13, a14, a15, a16, a17, a18, a19⟩ := u
  obtain ⟨hcp, hC⟩ := zq_Qc h
  have c7 := hC.2.1
  obtain ⟨f1, f2, f3, f4, f5⟩ := zq_efok hC
  unfold wpX_leastOpening
  refine zq_Qg h ?_
  dsimp only
  refine br_f (by decide) (zq_lt y 0 rfl rfl ⟨by omega, by omega⟩ ⟨by omega, by omega⟩ (fun q => absurd q (by omega)) (fun _ => zq_le y (c : Int) rfl hcp ⟨by omega, by omega⟩ ⟨by omega, by omega⟩ (fun _ => ?_) (fun q => absurd q (by omega))))
  refine zq_Ql h ?_
  intro sp rt en cp rm xA xL xH a1 a2 a3 a4 a5 a6 a7 a8 a9 a10 a11 a12 a13 a14 a15 a16 a17 a18 a19 k v1 v2 v3
  have hcp' : cp = zq_Z (c : Int) := (zq_Qc (Or.inr k)).1
  have Q := hq _ k
  unfold zq_lo at Q
  generalize (zq_ef c W).1 = A at *
  generalize (zq_ef c W).2.1 = lo at *
  generalize (zq_ef c W).2.2 = hi at *
  refine zq_lt lo y v2 rfl ⟨by omega, by omega⟩ ⟨by omega, by omega⟩ (fun q => ?_) (fun q => ?_)
  · rw [if_pos q] at Q
    refine zq_le y hi rfl v3 ⟨by omega, by omega⟩ ⟨by omega, by omega⟩ (fun q2 => ?_) (fun q2 => ?_)
    · rw [if_pos q2] at Q
      refine nm_r (e' := zq_Z (y - A)) (by rw [v1, zq_sub]) ?_
      refine zq_le (y - A) (c : Int) rfl hcp' ⟨by omega, by omega⟩ ⟨by omega, by omega⟩ (fun q3 => ?_) (fun q3 => ?_)
      · rw [if_pos q3] at Q
        refine zq_le 0 (y - A) rfl rfl ⟨by omega, by omega⟩ ⟨by omega, by omega⟩ (fun q4 => ?_) (fun q4 => ?_)
        · rw [if_pos q4] at Q
          exact Q
        · rw [if_neg (by omega)] at Q
          exact Q
      · rw [if_neg (by omega)] at Q
        exact Q
    · rw [if_neg (by omega)] at Q
      exact Q
  · rw [if_neg (by omega)] at Q
    exact Q
theorem zq_wrest {post : Int32 → St2 → Prop} {c : Nat} {W : Nat → Nat × Int} {u : St2} {y v : Int} (h : zq_Q c W u) (y0 : 0 ≤ y) (yc : y ≤ (c : Int)) (h1 : 0 < (zq_ef c W).1 → v = (zq_ef c W).2.2) (h2 : (zq_ef c W).1 < 0 → v = (zq_ef c W).2.1) (h3 : (zq_ef c W).1 = 0 → v = zq_cz y (zq_ef c W).2.1 (zq_ef c W).2.2) (hq : ∀ u', zq_R c W zq_tF u' → post (zq_Z v) u') : wpX_rest post u 0 4 (zq_Z y) := by
  obtain ⟨sp, rt, en, cp, rm, xA, xL, xH, a1, a2, a3, a4, a5, a6, a7, a8, a9, a10, a11, a12, a13, a14, a15, a16, a17, a18, a19⟩ := u
  obtain ⟨hcp, hC⟩ := zq_Qc h
  have c7 := hC.2.1
  obtain ⟨f1, f2, f3, f4, f5⟩ := zq_efok hC
  unfold wpX_rest
  refine zq_Qg h ?_
  dsimp only
  refine br_f (by decide) (zq_lt y 0 rfl rfl ⟨by omega, by omega⟩ ⟨by omega, by omega⟩ (fun q => absurd q (by omega)) (fun _ => zq_le y (c : Int) rfl hcp ⟨by omega, by omega⟩ ⟨by omega, by omega⟩ (fun _ => ?_) (fun q => absurd q (by omega))))
  refine zq_Ql h ?_
  intro sp rt en cp rm xA xL xH a1 a2 a3 a4 a5 a6 a7 a8 a9 a10 a11 a12 a13 a14 a15 a16 a17 a18 a19 k v1 v2 v3
  have Q := hq _ k
  generalize (zq_ef c W).1 = A at *
  generalize (zq_ef c W).2.1 = lo at *
  generalize (zq_ef c W).2.2 = hi at *
  refine zq_le A 0 v1 rfl ⟨by omega, by omega⟩ ⟨by omega, by omega⟩ (fun q => ?_) (fun q => ?_)
  · refine zq_le 0 A rfl v1 ⟨by omega, by omega⟩ ⟨by omega, by omega⟩ (fun q2 => ?_) (fun q2 => ?_)
    · refine zq_clamped ?_
      rw [h3 (by omega), ← zq_clZ ⟨by omega, by omega⟩ ⟨by omega, by omega⟩ ⟨by omega, by omega⟩, ← v2, ← v3] at Q
      exact Q
    · rw [h2 q2, ← v2] at Q
      exact Q
  · rw [h1 q, ← v3] at Q
    exact Q
theorem zq_wnet {post : Int32 → St2 → Prop} {c : Nat} {W : Nat → Nat × Int} {u : St2} (h : zq_Q c W u) (hq : ∀ u', zq_R c W zq_tF u' → post (zq_Z (zq_net W [4, 1, 2, 3])) u') : wpX_net post u 0 4 := by
  obtain ⟨sp, rt, en, cp, rm, xA, xL, xH, a1, a2, a3, a4, a5, a6, a7, a8, a9, a10, a11, a12, a13, a14, a15, a16, a17, a18, a19⟩ := u
  unfold wpX_net
  refine zq_Qg h ?_
  dsimp only
  refine br_f (by decide) (zq_Qi h (fun u' k => ?_))
  obtain ⟨sp', rt', en', cp', rm', xA', xL', xH', a1', a2', a3', a4', a5', a6', a7', a8', a9', a10', a11', a12', a13', a14', a15', a16', a17', a18', a19'⟩ := u'
  have hE := (zq_Rel k).2.2.2.2.2.2.2.2.2.2.1
  have e : a12' 5 = zq_Z (zq_net W [4, 1, 2, 3]) := (hE 5 (by decide)).2.1
  have c5 : (nI 5).toNatClampNeg = 5 := nI_clamp (by decide)
  dsimp only
  rw [c5, e]
  exact ⟨pk_in 5 43 (by decide), hq _ k⟩
end
section
/-! the law -/
theorem zq_clampL {post : Int32 → Prop} {x c : Int32} (h : post (zq_cl x 0 c)) : wpL_clamp post () x c := by
  have g : wpX_clamped post () x 0 c := zq_clamped h
  unfold wpX_clamped at g
  unfold wpL_clamp
  exact g
theorem zq_wins {post : Int32 → St2 → Prop} {c : Nat} {W : Nat → Nat × Int} {t q : zq_T} {u : St2} {pos e : Nat} (h : zq_R c W t u) (htp : zq_tp t ≤ 5) (hpos : pos ≤ zq_e0 t) (he : zq_e0 t < 10) (hm : -(c : Int) ≤ (W e).2 ∧ (W e).2 ≤ (c : Int)) (E : zq_chk (zq_place t pos e) q = true)
    (hq : ∀ u', zq_R c W q u' → post (nI (zq_e0 q)) u') : wpX_insert post u (nI pos) (nI (W e).1) (zq_Z (W e).2) := by
  obtain ⟨t1, e1, s⟩ := zq_chk_inv E
  refine zq_winsert h htp hpos he hm e1 (fun u' k => ?_)
  rw [zq_same_e s]
  exact hq u' (zq_Rsame s k)
theorem zq_wclo {post : Int32 → Prop} {c p q r u x : Int} (h : zq_D c p q r u) (x0 : -100 ≤ x) (x1 : x ≤ 100) (hp : post (zq_Z (zq_clo c p q r u x))) : wpL_closing post () (zq_Z c) (zq_Z p) (zq_Z q) (zq_Z r) (zq_Z u) (zq_Z x) := by
  obtain ⟨h1, h2, h3, h4, h5, h6, h7, h8, h9, h10⟩ := h
  have b1 := zq_cz_in (x + p) 0 c (by omega)
  have s2 := zq_cz_s (zq_cz (x + p) 0 c) q c h6
  have m19 : ∀ w : Int, 0 ≤ w → w ≤ c → w = zq_cz (zq_cz (x + p) 0 c) q c → wL_closing_19 post (zq_Z c) (zq_Z r) (zq_Z u) (zq_Z w) := by
    intro w w0 w1 hw
    unfold zq_clo at hp
    rw [← hw] at hp
    unfold wL_closing_19
    refine zq_clampL ?_
    rw [zq_add, show (0 : Int32) = zq_Z 0 from rfl, zq_clZ ⟨by omega, by omega⟩ ⟨by omega, by omega⟩ ⟨by omega, by omega⟩]
    have b2 := zq_cz_in (w + r) 0 c (by omega)
    refine zq_le (zq_cz (w + r) 0 c) u rfl rfl ⟨by omega, by omega⟩ ⟨by omega, by omega⟩ (fun z => ?_) (fun z => ?_)
    · rw [zq_cz_id _ 0 u b2.1 z] at hp
      exact hp
    · rw [zq_cz_high _ 0 u (by omega) h9] at hp
      exact hp
  unfold wpL_closing
  refine zq_clampL ?_
  rw [zq_add, show (0 : Int32) = zq_Z 0 from rfl, zq_clZ ⟨by omega, by omega⟩ ⟨by omega, by omega⟩ ⟨by omega, by omega⟩]
  refine zq_le q (zq_cz (x + p) 0 c) rfl rfl ⟨by omega, by omega⟩ ⟨by omega, by omega⟩ (fun z => ?_) (fun z => ?_)
  · exact m19 _ (by omega) (by omega) (by omega)
  · exact m19 _ (by omega) (by omega) (by omega)
theorem zq_l325 {post : Int32 → St0 → Prop} {mc ms kc ks c : Nat} {p q r u y : Int} (hD : zq_D c p q r u) (y0 : 0 ≤ y) (yc : y ≤ (c : Int)) {sp rt en cp rm xA xL xH : Int32} {a1 a2 a3 a4 a5 a6 a7 a8 a9 a10 a11 a12 a13 a14 a15 a16 a17 a18 a19 : Nat → Int32} (h : zq_Q c (zq_W p q r u) (sp, rt, en, cp, rm, xA, xL, xH, a1, a2, a3, a4, a5, a6, a7, a8, a9, a10, a11, a12, a13, a14, a15, a16, a17, a18, a19)) (hp : post 1 ()) :
    ∃ fu, wL_lawOf_325 post mc ms (zq_Z c) (zq_Z p) (zq_Z q) (zq_Z r) (zq_Z u) (zq_Z y) kc ks sp rt en cp rm xA xL xH a1 a2 a3 a4 a5 a6 a7 a8 a9 a10 a11 a12 a13 a14 a15 a16 a17 a18 a19 fu (zq_Z y) 0 := by
  have hD' := hD
  obtain ⟨d1, d2, d3, d4, d5, d6, d7, d8, d9, d10⟩ := hD'
  have hb := zq_clo_in hD
  have hC := (zq_Qc h).2
  obtain ⟨f1, f2, f3, f4, f5⟩ := zq_efok hC
  have hf : ∀ x, 0 ≤ x → x ≤ (c : Int) → zq_clo c p q r u x = zq_cz (x + (zq_ef c (zq_W p q r u)).1) (zq_ef c (zq_W p q r u)).2.1 (zq_ef c (zq_W p q r u)).2.2 := fun x x0 xc => (zq_clo_eff hD x0 xc).symm
  have r8 := zq_rs8 d1 d2 f1 f2 f3 y0 yc hb hf
  refine pk_loop (σ := Unit) (fun n i _ => wL_lawOf_325 post mc ms (zq_Z c) (zq_Z p) (zq_Z q) (zq_Z r) (zq_Z u) (zq_Z y) kc ks sp rt en cp rm xA xL xH a1 a2 a3 a4 a5 a6 a7 a8 a9 a10 a11 a12 a13 a14 a15 a16 a17 a18 a19 n (zq_Z (zq_rs y (zq_clo c p q r u) i)) (nI i)) (fun _ _ => True) 8 0 () (by omega) trivial ?_ ?_
  · intro n _ _
    refine pk_le 8 8 (fun _ => ?_) (fun z => absurd z (by omega))
    refine zq_wrest h y0 yc r8.1 r8.2.1 r8.2.2 (fun u1 k1 => ?_)
    obtain ⟨sp1, rt1, en1, cp1, rm1, xA1, xL1, xH1, a11, a21, a31, a41, a51, a61, a71, a81, a91, a101, a111, a121, a131, a141, a151, a161, a171, a181, a191⟩ := u1
    refine br_t rfl ?_
    refine zq_wnet (Or.inr k1) (fun u2 k2 => ?_)
    obtain ⟨sp2, rt2, en2, cp2, rm2, xA2, xL2, xH2, a12, a22, a32, a42, a52, a62, a72, a82, a92, a102, a112, a122, a132, a142, a152, a162, a172, a182, a192⟩ := u2
    refine br_t ?_ hp
    rw [zq_netW, zq_add]
  · intro n i _ hi _ hw
    refine pk_le 8 i (fun z => absurd z (by omega)) (fun _ => ?_)
    have b := zq_rs_in y0 yc hb i
    exact zq_wclo hD (by omega) (by omega) (nm_r (nI_1 i) (hw () trivial))
theorem zq_l246 {post : Int32 → St0 → Prop} {J : Int32 → Int32 → Int32 → Int32 → Int32 → Int32 → Int32 → Int32 → Int32 → Int32 → Int32 → (Nat → Int32) → (Nat → Int32) → (Nat → Int32) → (Nat → Int32) → (Nat → Int32) → (Nat → Int32) → (Nat → Int32) → (Nat → Int32) → (Nat → Int32) → (Nat → Int32) → (Nat → Int32) → (Nat → Int32) → (Nat → Int32) → (Nat → Int32) → (Nat → Int32) → (Nat → Int32) → (Nat → Int32) → (Nat → Int32) → (Nat → Int32) → Prop} {mc ms kc ks c i : Nat} {x6 x11 x13 x14 x16 : Int32} {p q r u x b : Int} (hD : zq_D c p q r u) (h6 : x6 = zq_Z c) (h16 : x16 = zq_Z x) (x0 : 0 ≤ x) (xc : x ≤ (c : Int)) (hb : b = zq_clo c p q r u x) {sp rt en cp rm xA xL xH : Int32} {a1 a2 a3 a4 a5 a6 a7 a8 a9 a10 a11 a12 a13 a14 a15 a16 a17 a18 a19 : Nat → Int32} (h : zq_Q c (zq_W p q r u) (sp, rt, en, cp, rm, xA, xL, xH, a1, a2, a3, a4, a5, a6, a7, a8, a9, a10, a11, a12, a13, a14, a15, a16, a17, a18, a19))
    (hq : ∀ (sp' rt' en' cp' rm' xA' xL' xH' : Int32) (a1' a2' a3' a4' a5' a6' a7' a8' a9' a10' a11' a12' a13' a14' a15' a16' a17' a18' a19' : Nat → Int32), zq_R c (zq_W p q r u) zq_tF (sp', rt', en', cp', rm', xA', xL', xH', a1', a2', a3', a4', a5', a6', a7', a8', a9', a10', a11', a12', a13', a14', a15', a16', a17', a18', a19') → J x13 x14 (nI (i + 1)) sp' rt' en' cp' rm' xA' xL' xH' a1' a2' a3' a4' a5' a6' a7' a8' a9' a10' a11' a12' a13' a14' a15' a16' a17' a18' a19') :
    wL_lawOf_246 post mc ms J x6 (zq_Z p) (zq_Z q) (zq_Z r) (zq_Z u) x11 x13 x14 (nI i) x16 (zq_Z b) kc ks sp rt en cp rm xA xL xH a1 a2 a3 a4 a5 a6 a7 a8 a9 a10 a11 a12 a13 a14 a15 a16 a17 a18 a19 := by
  subst h6 h16
  have bi := zq_clo_in hD x
  rw [← hb] at bi
  have c7 := hD.2.1
  unfold wL_lawOf_246
  refine zq_wclo hD (by omega) (by omega) ?_
  refine zq_wrep h x0 xc (fun u1 k1 => ?_)
  obtain ⟨sp1, rt1, en1, cp1, rm1, xA1, xL1, xH1, a11, a21, a31, a41, a51, a61, a71, a81, a91, a101, a111, a121, a131, a141, a151, a161, a171, a181, a191⟩ := u1
  refine br_t ?_ (nm_r (nI_1 i) (hq _ _ _ _ _ _ _ _ _ _ _ _ _ _ _ _ _ _ _ _ _ _ _ _ _ _ _ k1))
  have e1 : zq_ap (zq_ef c (zq_W p q r u)) x = b := by
    rw [hb]
    exact zq_clo_eff hD x0 xc
  have e2 : zq_ap (zq_ef c (zq_W p q r u)) b = zq_clo c p q r u b := zq_clo_eff hD bi.1 bi.2
  rw [e1, e2]
theorem zq_l171 {post : Int32 → St0 → Prop} {mc ms kc ks c : Nat} {p q r u y : Int} (hD : zq_D c p q r u) (y0 : 0 ≤ y) (yc : y ≤ (c : Int)) {sp rt en cp rm xA xL xH : Int32} {a1 a2 a3 a4 a5 a6 a7 a8 a9 a10 a11 a12 a13 a14 a15 a16 a17 a18 a19 : Nat → Int32} (h : zq_Q c (zq_W p q r u) (sp, rt, en, cp, rm, xA, xL, xH, a1, a2, a3, a4, a5, a6, a7, a8, a9, a10, a11, a12, a13, a14, a15, a16, a17, a18, a19)) (hp : post 1 ()) :
    ∃ fu, wL_lawOf_171 post mc ms (zq_Z c) (zq_Z p) (zq_Z q) (zq_Z r) (zq_Z u) (zq_Z y) kc ks fu 0 (-3) 0 sp rt en cp rm xA xL xH a1 a2 a3 a4 a5 a6 a7 a8 a9 a10 a11 a12 a13 a14 a15 a16 a17 a18 a19 := by
  have hD' := hD
  obtain ⟨d1, d2, d3, d4, d5, d6, d7, d8, d9, d10⟩ := hD'
  have hb := zq_clo_in hD
  have hC := (zq_Qc h).2
  obtain ⟨f1, f2, f3, f4, f5⟩ := zq_efok hC
  have hf : ∀ x, 0 ≤ x → x ≤ (c : Int) → zq_clo c p q r u x = zq_cz (x + (zq_ef c (zq_W p q r u)).1) (zq_ef c (zq_W p q r u)).2.1 (zq_ef c (zq_W p q r u)).2.2 := fun x x0 xc => (zq_clo_eff hD x0 xc).symm
  have n8 := zq_cn8 (y := y) d1 d2 f1 f2 f3 hf
  have l8 := zq_ls8 (y := y) d1 d2 f1 f2 f3 hf
  have main : ∀ (f i : Nat) (sp rt en cp rm xA xL xH : Int32) (a1 a2 a3 a4 a5 a6 a7 a8 a9 a10 a11 a12 a13 a14 a15 a16 a17 a18 a19 : Nat → Int32), i + f = 8 → zq_Q c (zq_W p q r u) (sp, rt, en, cp, rm, xA, xL, xH, a1, a2, a3, a4, a5, a6, a7, a8, a9, a10, a11, a12, a13, a14, a15, a16, a17, a18, a19) → wL_lawOf_171 post mc ms (zq_Z c) (zq_Z p) (zq_Z q) (zq_Z r) (zq_Z u) (zq_Z y) kc ks (f + 1) (zq_Z (zq_cn c y (zq_clo c p q r u) i)) (zq_Z (zq_ls c y (zq_clo c p q r u) i)) (nI i) sp rt en cp rm xA xL xH a1 a2 a3 a4 a5 a6 a7 a8 a9 a10 a11 a12 a13 a14 a15 a16 a17 a18 a19 := by
    intro f
    induction f with
    | zero =>
      intro i sp rt en cp rm xA xL xH a1 a2 a3 a4 a5 a6 a7 a8 a9 a10 a11 a12 a13 a14 a15 a16 a17 a18 a19 hi k
      have i8 : i = 8 := by omega
      subst i8
      refine pk_le 8 8 (fun _ => ?_) (fun z => absurd z (by omega))
      refine zq_wopen k y0 yc (fun u1 k1 => ?_)
      obtain ⟨sp1, rt1, en1, cp1, rm1, xA1, xL1, xH1, a11, a21, a31, a41, a51, a61, a71, a81, a91, a101, a111, a121, a131, a141, a151, a161, a171, a181, a191⟩ := u1
      refine br_t (by rw [n8]) ?_
      refine zq_wleast (Or.inr k1) y0 yc (fun u2 k2 => ?_)
      obtain ⟨sp2, rt2, en2, cp2, rm2, xA2, xL2, xH2, a12, a22, a32, a42, a52, a62, a72, a82, a92, a102, a112, a122, a132, a142, a152, a162, a172, a182, a192⟩ := u2
      refine br_t (by rw [l8]) ?_
      exact zq_l325 hD y0 yc (Or.inr k2) hp
    | succ f ih =>
      intro i sp rt en cp rm xA xL xH a1 a2 a3 a4 a5 a6 a7 a8 a9 a10 a11 a12 a13 a14 a15 a16 a17 a18 a19 hi k
      have ecn : zq_cn c y (zq_clo c p q r u) (i + 1) = if 7 - (i : Int) ≤ c ∧ zq_clo c p q r u (7 - (i : Int)) = y then zq_cn c y (zq_clo c p q r u) i + 1 else zq_cn c y (zq_clo c p q r u) i := rfl
      have els : zq_ls c y (zq_clo c p q r u) (i + 1) = if 7 - (i : Int) ≤ c ∧ y ≤ zq_clo c p q r u (7 - (i : Int)) then 7 - (i : Int) else zq_ls c y (zq_clo c p q r u) i := rfl
      refine pk_le 8 i (fun z => absurd z (by omega)) (fun _ => nm_r (e' := zq_Z (7 - (i : Int))) ?_ ?_)
      · rw [zq_nI]
        show zq_Z 7 - zq_Z (i : Int) = _
        rw [zq_sub]
      refine zq_lt (c : Int) (7 - (i : Int)) rfl rfl ⟨by omega, by omega⟩ ⟨by omega, by omega⟩ (fun z => ?_) (fun z => ?_)
      · refine nm_r (nI_1 i) ?_
        have g := ih (i + 1) sp rt en cp rm xA xL xH a1 a2 a3 a4 a5 a6 a7 a8 a9 a10 a11 a12 a13 a14 a15 a16 a17 a18 a19 (by omega) k
        rw [ecn, els, if_neg (by omega), if_neg (by omega)] at g
        exact g
      · refine zq_wclo hD (by omega) (by omega) ?_
        refine zq_wrun k (by omega) z (fun u1 k1 => ?_)
        obtain ⟨sp1, rt1, en1, cp1, rm1, xA1, xL1, xH1, a11, a21, a31, a41, a51, a61, a71, a81, a91, a101, a111, a121, a131, a141, a151, a161, a171, a181, a191⟩ := u1
        have bx := hb (7 - (i : Int))
        have cb := zq_cn_in (c : Int) y (zq_clo c p q r u) i
        refine br_t ?_ ?_
        · rw [show zq_ap (zq_ef c (zq_W p q r u)) (7 - (i : Int)) = zq_clo c p q r u (7 - (i : Int)) from zq_clo_eff hD (by omega) z]
        refine zq_eq (zq_clo c p q r u (7 - (i : Int))) y rfl rfl ⟨by omega, by omega⟩ ⟨by omega, by omega⟩ (fun z1 => nm_r (e' := zq_Z (zq_cn c y (zq_clo c p q r u) i + 1)) ?_ ?_) (fun z1 => ?_)
        · show zq_Z (zq_cn c y (zq_clo c p q r u) i) + zq_Z 1 = _
          rw [zq_add]
        · unfold wL_lawOf_235
          refine zq_lt (zq_clo c p q r u (7 - (i : Int))) y rfl rfl ⟨by omega, by omega⟩ ⟨by omega, by omega⟩ (fun z2 => ?_) (fun z2 => ?_)
          · omega
          · refine zq_l246 hD rfl rfl (by omega) z rfl (Or.inr k1) ?_
            intro sp rt en cp rm xA xL xH a1 a2 a3 a4 a5 a6 a7 a8 a9 a10 a11 a12 a13 a14 a15 a16 a17 a18 a19 k2
            have g := ih (i + 1) sp rt en cp rm xA xL xH a1 a2 a3 a4 a5 a6 a7 a8 a9 a10 a11 a12 a13 a14 a15 a16 a17 a18 a19 (by omega) (Or.inr k2)
            rw [ecn, els, if_pos ⟨z, z1⟩, if_pos ⟨z, z2⟩] at g
            exact g
        · unfold wL_lawOf_235
          refine zq_lt (zq_clo c p q r u (7 - (i : Int))) y rfl rfl ⟨by omega, by omega⟩ ⟨by omega, by omega⟩ (fun z2 => ?_) (fun z2 => ?_)
          · refine zq_l246 hD rfl rfl (by omega) z rfl (Or.inr k1) ?_
            intro sp rt en cp rm xA xL xH a1 a2 a3 a4 a5 a6 a7 a8 a9 a10 a11 a12 a13 a14 a15 a16 a17 a18 a19 k2
            have g := ih (i + 1) sp rt en cp rm xA xL xH a1 a2 a3 a4 a5 a6 a7 a8 a9 a10 a11 a12 a13 a14 a15 a16 a17 a18 a19 (by omega) (Or.inr k2)
            rw [ecn, els, if_neg (fun w => z1 w.2), if_neg (by omega)] at g
            exact g
          · refine zq_l246 hD rfl rfl (by omega) z rfl (Or.inr k1) ?_
            intro sp rt en cp rm xA xL xH a1 a2 a3 a4 a5 a6 a7 a8 a9 a10 a11 a12 a13 a14 a15 a16 a17 a18 a19 k2
            have g := ih (i + 1) sp rt en cp rm xA xL xH a1 a2 a3 a4 a5 a6 a7 a8 a9 a10 a11 a12 a13 a14 a15 a16 a17 a18 a19 (by omega) (Or.inr k2)
            rw [ecn, els, if_neg (fun w => z1 w.2), if_pos ⟨z, z2⟩] at g
            exact g
  exact ⟨9, main 8 0 sp rt en cp rm xA xL xH a1 a2 a3 a4 a5 a6 a7 a8 a9 a10 a11 a12 a13 a14 a15 a16 a17 a18 a19 (by omega) h⟩
theorem zq_cell {post : Int32 → Prop} {L : Nat} {xs : Nat → Int32} (hL : L ≤ 6) {i : Nat} (hi : i ≤ 5) (h : ∀ x, post x) : wpL_cellAt post L xs () (nI i) := by
  unfold wpL_cellAt
  exact pk_le L i (fun _ => h 0) (fun z => ⟨pk_in i L (by omega), h _⟩)
theorem zq_lawOf {post : Int32 → St0 → Prop} {p0 p1 p2 p3 p4 p5 : Int32} (hp : post 1 ()) : wpL_lawOf post 610 9760 () p0 p1 p2 p3 p4 p5 := by
  obtain ⟨j0, b0, e0⟩ := pk_andE p0 (m := 3) 2 (by decide)
  obtain ⟨j1, b1, e1⟩ := pk_andE p1 (m := 15) 4 (by decide)
  obtain ⟨j2, b2, e2⟩ := pk_andE p2 (m := 7) 3 (by decide)
  obtain ⟨j3, b3, e3⟩ := pk_andE p3 (m := 15) 4 (by decide)
  obtain ⟨j4, b4, e4⟩ := pk_andE p4 (m := 7) 3 (by decide)
  obtain ⟨j5, b5, e5⟩ := pk_andE p5 (m := 7) 3 (by decide)
  unfold wpL_lawOf
  rw [e0, e1, e2, e3, e4, e5]
  have ec : (4 : Int32) + nI j0 = nI (4 + j0) := by
    show nI 4 + nI j0 = _
    rw [nI_add]
  generalize hc : 4 + j0 = c at ec
  have c4 : 4 ≤ c := by omega
  have c7 : c ≤ 7 := by omega
  refine nm_r ec ?_
  have e2c : (2 : Int32) * nI c = zq_Z (2 * (c : Int)) := by
    show nI 2 * nI c = _
    rw [pk_mul, zq_nI]
    rfl
  rw [e2c]
  have K : ∀ (j : Nat) (m : Int), j < 16 → 0 ≤ m → m ≤ 14 → zq_cl (nI j) 0 (zq_Z m) = zq_Z (zq_cz j 0 m) := by
    intro j m hj m0 m1
    rw [zq_nI]
    exact zq_clZ (lo := 0) ⟨by omega, by omega⟩ ⟨by omega, by omega⟩ ⟨by omega, by omega⟩
  have i1 := zq_cz_in (j1 : Int) 0 (2 * (c : Int)) (by omega)
  have i2 := zq_cz_in (j2 : Int) 0 (c : Int) (by omega)
  have i3 := zq_cz_in (j3 : Int) 0 (2 * (c : Int)) (by omega)
  have i4 := zq_cz_in (j4 : Int) 0 (c : Int) (by omega)
  have i5 := zq_cz_in (j5 : Int) 0 (c : Int) (by omega)
  have k1 := K j1 (2 * (c : Int)) (by omega) (by omega) (by omega)
  have k2 := K j2 (c : Int) (by omega) (by omega) (by omega)
  have k3 := K j3 (2 * (c : Int)) (by omega) (by omega) (by omega)
  have k4 := K j4 (c : Int) (by omega) (by omega) (by omega)
  have k5 := K j5 (c : Int) (by omega) (by omega) (by omega)
  generalize zq_cz (j1 : Int) 0 (2 * (c : Int)) = P at *
  generalize zq_cz (j2 : Int) 0 (c : Int) = q at *
  generalize zq_cz (j3 : Int) 0 (2 * (c : Int)) = N at *
  generalize zq_cz (j4 : Int) 0 (c : Int) = u at *
  generalize zq_cz (j5 : Int) 0 (c : Int) = y at *
  have ecz : nI c = zq_Z (c : Int) := zq_nI c
  have hD : zq_D c (P - c) q (N - c) u := ⟨by omega, by omega, by omega, by omega, by omega, by omega, by omega, by omega, by omega, by omega⟩
  have hC : zq_C c (zq_W (P - c) q (N - c) u) := ⟨c4, c7, zq_Wval hD⟩
  refine zq_clampL ?_
  rw [k1]
  refine nm_r (e' := zq_Z (P - c)) (by rw [ecz, zq_sub]) (zq_clampL ?_)
  rw [show zq_cl (nI j2) 0 (nI c) = zq_Z q by rw [ecz]; exact k2]
  refine zq_clampL ?_
  rw [k3]
  refine nm_r (e' := zq_Z (N - c)) (by rw [ecz, zq_sub]) (zq_clampL ?_)
  rw [show zq_cl (nI j4) 0 (nI c) = zq_Z u by rw [ecz]; exact k4]
  refine zq_clampL ?_
  rw [show zq_cl (nI j5) 0 (nI c) = zq_Z y by rw [ecz]; exact k5]
  refine ⟨by omega, by omega, 19, 1195, by omega, by omega, zq_winit hC rfl (by omega) (by omega) (fun u0 h0 => ?_)⟩
  obtain ⟨sp0, rt0, en0, cp0, rm0, xA0, xL0, xH0, a10, a20, a30, a40, a50, a60, a70, a80, a90, a100, a110, a120, a130, a140, a150, a160, a170, a180, a190⟩ := u0
  refine zq_wins (pos := 0) (e := 1) h0 (by decide) (by decide) (by decide) ⟨by show -(c : Int) ≤ q; omega, by show q ≤ (c : Int); omega⟩ zq_s1 (fun u1 h1 => ?_)
  obtain ⟨sp1, rt1, en1, cp1, rm1, xA1, xL1, xH1, a11, a21, a31, a41, a51, a61, a71, a81, a91, a101, a111, a121, a131, a141, a151, a161, a171, a181, a191⟩ := u1
  refine br_t rfl (zq_wins (pos := 1) (e := 2) h1 (by decide) (by decide) (by decide) ⟨by show -(c : Int) ≤ N - c; omega, by show N - c ≤ (c : Int); omega⟩ zq_s2 (fun u2 h2 => ?_))
  obtain ⟨sp2, rt2, en2, cp2, rm2, xA2, xL2, xH2, a12, a22, a32, a42, a52, a62, a72, a82, a92, a102, a112, a122, a132, a142, a152, a162, a172, a182, a192⟩ := u2
  refine br_t rfl (zq_wins (pos := 2) (e := 3) h2 (by decide) (by decide) (by decide) ⟨by show -(c : Int) ≤ u; omega, by show u ≤ (c : Int); omega⟩ zq_s3 (fun u3 h3 => ?_))
  obtain ⟨sp3, rt3, en3, cp3, rm3, xA3, xL3, xH3, a13, a23, a33, a43, a53, a63, a73, a83, a93, a103, a113, a123, a133, a143, a153, a163, a173, a183, a193⟩ := u3
  refine br_t rfl (zq_wins (pos := 3) (e := 4) h3 (by decide) (by decide) (by decide) ⟨by show -(c : Int) ≤ P - c; omega, by show P - c ≤ (c : Int); omega⟩ zq_s4 (fun u4 h4 => ?_))
  obtain ⟨sp4, rt4, en4, cp4, rm4, xA4, xL4, xH4, a14, a24, a34, a44, a54, a64, a74, a84, a94, a104, a114, a124, a134, a144, a154, a164, a174, a184, a194⟩ := u4
  obtain ⟨t5, E5, s5⟩ := zq_chk_inv zq_s5
  refine br_t rfl (zq_wmove (a := 3) (b := 4) (d := 0) h4 (by decide) (by decide) (by decide) E5 (fun u5 h5 => ?_))
  obtain ⟨sp5, rt5, en5, cp5, rm5, xA5, xL5, xH5, a15, a25, a35, a45, a55, a65, a75, a85, a95, a105, a115, a125, a135, a145, a155, a165, a175, a185, a195⟩ := u5
  refine br_t rfl ?_
  rw [ecz]
  exact zq_l171 hD (by omega) (by omega) (Or.inl (zq_Rsame s5 h5)) hp
theorem i_vc (xs : Nat → Int32) (L : Nat) (hL : L ≤ 6) : wpL_law (fun r => r = 1) L xs := by
  unfold wpL_law
  refine zq_cell hL (i := 0) (by decide) (fun r1 => ?_)
  refine zq_cell hL (i := 1) (by decide) (fun r2 => ?_)
  refine zq_cell hL (i := 2) (by decide) (fun r3 => ?_)
  refine zq_cell hL (i := 3) (by decide) (fun r4 => ?_)
  refine zq_cell hL (i := 4) (by decide) (fun r5 => ?_)
  refine zq_cell hL (i := 5) (by decide) (fun r6 => ?_)
  exact ⟨610, 9760, by decide, by decide, zq_lawOf rfl⟩
end
