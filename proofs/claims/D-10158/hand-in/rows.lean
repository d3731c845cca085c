section
/-! a hole as a number: its four fields -/
def ap_x (n : Nat) : Nat := n / 32768
def ap_y (n : Nat) : Nat := n / 1024 % 32
def ap_w (n : Nat) : Nat := n / 32 % 32
def ap_h (n : Nat) : Nat := n % 32
def ap_pk (x y w h : Nat) : Nat := x * 32768 + y * 1024 + w * 32 + h
theorem ap_pkx {x y w h : Nat} (hy : y < 32) (hw : w < 32) (hh : h < 32) : ap_x (ap_pk x y w h) = x := by
  unfold ap_x ap_pk
  omega
theorem ap_pky {x y w h : Nat} (hy : y < 32) (hw : w < 32) (hh : h < 32) : ap_y (ap_pk x y w h) = y := by
  unfold ap_y ap_pk
  omega
theorem ap_pkw {x y w h : Nat} (hy : y < 32) (hw : w < 32) (hh : h < 32) : ap_w (ap_pk x y w h) = w := by
  unfold ap_w ap_pk
  omega
theorem ap_pkh {x y w h : Nat} (hy : y < 32) (hw : w < 32) (hh : h < 32) : ap_h (ap_pk x y w h) = h := by
  unfold ap_h ap_pk
  omega
theorem ap_ext {m n : Nat} (hx : ap_x m = ap_x n) (hy : ap_y m = ap_y n) (hw : ap_w m = ap_w n) (hh : ap_h m = ap_h n) : m = n := by
  unfold ap_x at hx
  unfold ap_y at hy
  unfold ap_w at hw
  unfold ap_h at hh
  omega
theorem ap_b32 (n : Nat) : ap_y n < 32 ∧ ap_w n < 32 ∧ ap_h n < 32 := by
  unfold ap_y ap_w ap_h
  omega
/-- the cell (u, v) lies in the hole n -/
def ap_c (n u v : Nat) : Prop := ap_x n ≤ u ∧ u < ap_x n + ap_w n ∧ ap_y n ≤ v ∧ v < ap_y n + ap_h n
def ap_ins (a b : Nat) : Prop := ap_x b ≤ ap_x a ∧ ap_y b ≤ ap_y a ∧ ap_x a + ap_w a ≤ ap_x b + ap_w b ∧ ap_y a + ap_h a ≤ ap_y b + ap_h b
def ap_fr (F : Nat → Nat → Prop) (n : Nat) : Prop := 1 ≤ ap_w n ∧ 1 ≤ ap_h n ∧ ∀ u v, ap_c n u v → F u v
def ap_mx (F : Nat → Nat → Prop) (n : Nat) : Prop := ap_fr F n ∧ ∀ m, ap_fr F m → ap_ins n m → m = n
/-- the free cells lie on the sheet -/
def ap_bd (C R : Nat) (F : Nat → Nat → Prop) : Prop := C ≤ 16 ∧ R ≤ 16 ∧ ∀ u v, F u v → u < C ∧ v < R
theorem ap_frb {C R n : Nat} {F : Nat → Nat → Prop} (hb : ap_bd C R F) (h : ap_fr F n) : ap_x n + ap_w n ≤ C ∧ ap_y n + ap_h n ≤ R := by
  obtain ⟨_, _, hb⟩ := hb
  obtain ⟨h1, h2, h3⟩ := h
  have t := hb _ _ (h3 (ap_x n + ap_w n - 1) (ap_y n + ap_h n - 1) ⟨by omega, by omega, by omega, by omega⟩)
  omega
theorem ap_frx {C R n : Nat} {F : Nat → Nat → Prop} (hb : ap_bd C R F) (h : ap_fr F n) : n < 1048576 := by
  have t := ap_frb hb h
  obtain ⟨h1, h2, _⟩ := hb
  have t2 : ap_x n ≤ 16 := by omega
  unfold ap_x at t2
  omega
theorem ap_insR (a : Nat) : ap_ins a a := ⟨Nat.le_refl _, Nat.le_refl _, Nat.le_refl _, Nat.le_refl _⟩
theorem ap_insT {a b c : Nat} (h : ap_ins a b) (h' : ap_ins b c) : ap_ins a c := by
  unfold ap_ins at *
  omega
theorem ap_insA {a b : Nat} (h : ap_ins a b) (h' : ap_ins b a) : a = b := by
  unfold ap_ins at *
  exact ap_ext (by omega) (by omega) (by omega) (by omega)
theorem ap_exm {C R : Nat} {F : Nat → Nat → Prop} (hb : ap_bd C R F) : ∀ (k n : Nat), ap_fr F n → 33 ≤ ap_w n + ap_h n + k → ∃ m, ap_mx F m ∧ ap_ins n m := by
  intro k
  induction k with
  | zero =>
    intro n hn hk
    have t := ap_frb hb hn
    obtain ⟨h1, h2, _⟩ := hb
    omega
  | succ k ih =>
    intro n hn hk
    by_cases hc : ∃ m, ap_fr F m ∧ ap_ins n m ∧ m ≠ n
    · obtain ⟨m, hm, hi, hne⟩ := hc
      have hlt : ap_w n + ap_h n < ap_w m + ap_h m := by
        rcases Nat.lt_or_ge (ap_w n + ap_h n) (ap_w m + ap_h m) with z | z
        · exact z
        · obtain ⟨i1, i2, i3, i4⟩ := hi
          exact absurd (ap_ext (by omega) (by omega) (by omega) (by omega)) hne
      obtain ⟨q, hq, hq'⟩ := ih m hm (by omega)
      exact ⟨q, hq, ap_insT hi hq'⟩
    · refine ⟨n, ⟨hn, fun m hm hi => ?_⟩, ap_insR n⟩
      exact Classical.byContradiction (fun hne => hc ⟨m, hm, hi, hne⟩)
theorem ap_exm0 {C R n : Nat} {F : Nat → Nat → Prop} (hb : ap_bd C R F) (hn : ap_fr F n) : ∃ m, ap_mx F m ∧ ap_ins n m := ap_exm hb 33 n hn (by omega)
theorem ap_mkfr {F : Nat → Nat → Prop} {x y w h : Nat} (hy : y < 32) (hw : w < 32) (hh : h < 32) (w1 : 1 ≤ w) (h1 : 1 ≤ h) (H : ∀ u v, x ≤ u → u < x + w → y ≤ v → v < y + h → F u v) : ap_fr F (ap_pk x y w h) := by
  refine ⟨by rw [ap_pkw hy hw hh]; exact w1, by rw [ap_pkh hy hw hh]; exact h1, fun u v hc => ?_⟩
  unfold ap_c at hc
  rw [ap_pkx hy hw hh, ap_pky hy hw hh, ap_pkw hy hw hh, ap_pkh hy hw hh] at hc
  exact H u v hc.1 hc.2.1 hc.2.2.1 hc.2.2.2
theorem ap_pki {n x y w h : Nat} (hy : y < 32) (hw : w < 32) (hh : h < 32) (i1 : x ≤ ap_x n) (i2 : y ≤ ap_y n) (i3 : ap_x n + ap_w n ≤ x + w) (i4 : ap_y n + ap_h n ≤ y + h) : ap_ins n (ap_pk x y w h) := by
  unfold ap_ins
  rw [ap_pkx hy hw hh, ap_pky hy hw hh, ap_pkw hy hw hh, ap_pkh hy hw hh]
  exact ⟨i1, i2, i3, i4⟩
/-- a hole can't grow: upwards, downwards, to the left, to the right -/
theorem ap_up {C R n : Nat} {F : Nat → Nat → Prop} (hb : ap_bd C R F) (hm : ap_mx F n) : ∃ u, ap_x n ≤ u ∧ u < ap_x n + ap_w n ∧ ¬ F u (ap_y n + ap_h n) := by
  apply Classical.byContradiction
  intro hc
  have t := ap_frb hb hm.1
  obtain ⟨b1, b2, _⟩ := hb
  obtain ⟨⟨h1, h2, h3⟩, hm⟩ := hm
  have e : ap_pk (ap_x n) (ap_y n) (ap_w n) (ap_h n + 1) = n := by
    apply hm
    · refine ap_mkfr (by omega) (by omega) (by omega) h1 (by omega) (fun u v u1 u2 v1 v2 => ?_)
      by_cases hv : v < ap_y n + ap_h n
      · exact h3 u v ⟨u1, u2, v1, hv⟩
      · rw [show v = ap_y n + ap_h n by omega]
        exact Classical.byContradiction (fun z => hc ⟨u, u1, u2, z⟩)
    · exact ap_pki (by omega) (by omega) (by omega) (by omega) (by omega) (by omega) (by omega)
  have e2 := congrArg ap_h e
  rw [ap_pkh (by omega) (by omega) (by omega)] at e2
  omega
theorem ap_dn {C R n : Nat} {F : Nat → Nat → Prop} (hb : ap_bd C R F) (hm : ap_mx F n) (hy : 0 < ap_y n) : ∃ u, ap_x n ≤ u ∧ u < ap_x n + ap_w n ∧ ¬ F u (ap_y n - 1) := by
  apply Classical.byContradiction
  intro hc
  have t := ap_frb hb hm.1
  obtain ⟨b1, b2, _⟩ := hb
  obtain ⟨⟨h1, h2, h3⟩, hm⟩ := hm
  have e : ap_pk (ap_x n) (ap_y n - 1) (ap_w n) (ap_h n + 1) = n := by
    apply hm
    · refine ap_mkfr (by omega) (by omega) (by omega) h1 (by omega) (fun u v u1 u2 v1 v2 => ?_)
      by_cases hv : ap_y n ≤ v
      · exact h3 u v ⟨u1, u2, hv, by omega⟩
      · rw [show v = ap_y n - 1 by omega]
        exact Classical.byContradiction (fun z => hc ⟨u, u1, u2, z⟩)
    · exact ap_pki (by omega) (by omega) (by omega) (by omega) (by omega) (by omega) (by omega)
  have e2 := congrArg ap_h e
  rw [ap_pkh (by omega) (by omega) (by omega)] at e2
  omega
theorem ap_lf {C R n u : Nat} {F : Nat → Nat → Prop} (hb : ap_bd C R F) (hm : ap_mx F n) (hu : u + 1 = ap_x n) : ∃ v, ap_y n ≤ v ∧ v < ap_y n + ap_h n ∧ ¬ F u v := by
  apply Classical.byContradiction
  intro hc
  have t := ap_frb hb hm.1
  obtain ⟨b1, b2, _⟩ := hb
  obtain ⟨⟨h1, h2, h3⟩, hm⟩ := hm
  have e : ap_pk u (ap_y n) (ap_w n + 1) (ap_h n) = n := by
    apply hm
    · refine ap_mkfr (by omega) (by omega) (by omega) (by omega) h2 (fun u' v u1 u2 v1 v2 => ?_)
      by_cases hv : ap_x n ≤ u'
      · exact h3 u' v ⟨hv, by omega, v1, v2⟩
      · rw [show u' = u by omega]
        exact Classical.byContradiction (fun z => hc ⟨v, v1, v2, z⟩)
    · exact ap_pki (by omega) (by omega) (by omega) (by omega) (by omega) (by omega) (by omega)
  have e2 := congrArg ap_w e
  rw [ap_pkw (by omega) (by omega) (by omega)] at e2
  omega
theorem ap_rt {C R n : Nat} {F : Nat → Nat → Prop} (hb : ap_bd C R F) (hm : ap_mx F n) : ∃ v, ap_y n ≤ v ∧ v < ap_y n + ap_h n ∧ ¬ F (ap_x n + ap_w n) v := by
  apply Classical.byContradiction
  intro hc
  have t := ap_frb hb hm.1
  obtain ⟨b1, b2, _⟩ := hb
  obtain ⟨⟨h1, h2, h3⟩, hm⟩ := hm
  have e : ap_pk (ap_x n) (ap_y n) (ap_w n + 1) (ap_h n) = n := by
    apply hm
    · refine ap_mkfr (by omega) (by omega) (by omega) (by omega) h2 (fun u' v u1 u2 v1 v2 => ?_)
      by_cases hv : u' < ap_x n + ap_w n
      · exact h3 u' v ⟨u1, hv, v1, v2⟩
      · rw [show u' = ap_x n + ap_w n by omega]
        exact Classical.byContradiction (fun z => hc ⟨v, v1, v2, z⟩)
    · exact ap_pki (by omega) (by omega) (by omega) (by omega) (by omega) (by omega) (by omega)
  have e2 := congrArg ap_w e
  rw [ap_pkw (by omega) (by omega) (by omega)] at e2
  omega
/-! at most 256 holes -/
noncomputable def ap_col (F : Nat → Nat → Prop) (n : Nat) : Nat := Classical.epsilon (fun u => ap_x n ≤ u ∧ u < ap_x n + ap_w n ∧ ¬ F u (ap_y n + ap_h n))
theorem ap_colp {C R n : Nat} {F : Nat → Nat → Prop} (hb : ap_bd C R F) (hm : ap_mx F n) : ap_x n ≤ ap_col F n ∧ ap_col F n < ap_x n + ap_w n ∧ ¬ F (ap_col F n) (ap_y n + ap_h n) :=
  Classical.epsilon_spec (ap_up hb hm)
theorem ap_colh {C R m n : Nat} {F : Nat → Nat → Prop} (hb : ap_bd C R F) (hm : ap_mx F m) (hn : ap_mx F n) (hy : ap_y m = ap_y n) (hc : ap_col F m = ap_col F n) : ap_h n ≤ ap_h m := by
  obtain ⟨m1, m2, m3⟩ := ap_colp hb hm
  obtain ⟨n1, n2, n3⟩ := ap_colp hb hn
  rcases Nat.lt_or_ge (ap_h m) (ap_h n) with z | z
  · refine absurd (hn.1.2.2 (ap_col F n) (ap_y m + ap_h m) ⟨n1, n2, by omega, by omega⟩) ?_
    rw [← hc]
    exact m3
  · exact z
theorem ap_coli {C R m n : Nat} {F : Nat → Nat → Prop} (hb : ap_bd C R F) (hm : ap_mx F m) (hn : ap_mx F n) (hy : ap_y m = ap_y n) (hc : ap_col F m = ap_col F n) : m = n := by
  have a1 := ap_colh hb hm hn hy hc
  have a2 := ap_colh hb hn hm hy.symm hc.symm
  obtain ⟨m1, m2, m3⟩ := ap_colp hb hm
  obtain ⟨n1, n2, n3⟩ := ap_colp hb hn
  have t := ap_frb hb hm.1
  have t' := ap_frb hb hn.1
  obtain ⟨b1, b2, _⟩ := hb
  rw [hc] at m1 m2
  have hf : ap_fr F (ap_pk (min (ap_x m) (ap_x n)) (ap_y n) (max (ap_x m + ap_w m) (ap_x n + ap_w n) - min (ap_x m) (ap_x n)) (ap_h n)) := by
    refine ap_mkfr (by omega) (by omega) (by omega) (by omega) hn.1.2.1 (fun u v u1 u2 v1 v2 => ?_)
    by_cases z : ap_x n ≤ u ∧ u < ap_x n + ap_w n
    · exact hn.1.2.2 u v ⟨z.1, z.2, v1, v2⟩
    · exact hm.1.2.2 u v ⟨by omega, by omega, by omega, by omega⟩
  have e1 := hn.2 _ hf (ap_pki (by omega) (by omega) (by omega) (by omega) (by omega) (by omega) (by omega))
  have e2 := hm.2 _ hf (ap_pki (by omega) (by omega) (by omega) (by omega) (by omega) (by omega) (by omega))
  rw [← e2, e1]
theorem ap_256 {C R : Nat} {F : Nat → Nat → Prop} {l : List Nat} (hb : ap_bd C R F) (hn : l.Nodup) (hl : ∀ n, n ∈ l → ap_mx F n) : l.length ≤ 256 := by
  have t : (l.map (fun n => ap_y n * 16 + ap_col F n)).Nodup := by
    refine List.pairwise_map.mpr (List.Pairwise.imp_of_mem (fun {a b} ha hb' hne => ?_) hn)
    intro e
    have e : ap_y a * 16 + ap_col F a = ap_y b * 16 + ap_col F b := e
    obtain ⟨a1, a2, _⟩ := ap_colp hb (hl a ha)
    obtain ⟨c1, c2, _⟩ := ap_colp hb (hl b hb')
    have t1 := ap_frb hb (hl a ha).1
    have t2 := ap_frb hb (hl b hb').1
    have b1 := hb.1
    exact hne (ap_coli hb (hl a ha) (hl b hb') (by omega) (by omega))
  have s : (l.map (fun n => ap_y n * 16 + ap_col F n)) ⊆ List.range 256 := by
    intro k hk
    obtain ⟨a, ha, rfl⟩ := List.mem_map.mp hk
    obtain ⟨a1, a2, _⟩ := ap_colp hb (hl a ha)
    have t1 := ap_frb hb (hl a ha).1
    have t3 := (hl a ha).1.2.1
    obtain ⟨b1, b2, _⟩ := hb
    have g : ap_y a * 16 + ap_col F a < 256 := by omega
    exact List.mem_range.mpr g
  have r := t.length_le_of_subset s
  rw [List.length_map, List.length_range] at r
  exact r
end
section
/-! lists of numbers, held by an array -/
def ap_rep (l : List Nat) (a : Nat → Int32) : Prop := ∀ k, k < l.length → a k = nI (l.getD k 0)
theorem ap_gm {l : List Nat} {k : Nat} (h : k < l.length) : l.getD k 0 ∈ l := by
  rw [List.getD_eq_getElem?_getD, List.getElem?_eq_getElem h, Option.getD_some]
  exact List.getElem_mem h
theorem ap_mg {l : List Nat} {n : Nat} (h : n ∈ l) : ∃ k, k < l.length ∧ l.getD k 0 = n := by
  obtain ⟨k, hk, e⟩ := List.mem_iff_getElem.mp h
  exact ⟨k, hk, by rw [List.getD_eq_getElem?_getD, List.getElem?_eq_getElem hk, Option.getD_some, e]⟩
theorem ap_gl {l : List Nat} {k n : Nat} (h : k < l.length) : (l ++ [n]).getD k 0 = l.getD k 0 := by
  rw [List.getD_eq_getElem?_getD, List.getD_eq_getElem?_getD, List.getElem?_append_left h]
theorem ap_gr {l : List Nat} {n : Nat} : (l ++ [n]).getD l.length 0 = n := by
  rw [List.getD_eq_getElem?_getD, List.getElem?_append_right (Nat.le_refl _), Nat.sub_self]
  rfl
theorem ap_len {l : List Nat} {n : Nat} : (l ++ [n]).length = l.length + 1 := by
  rw [List.length_append]
  rfl
theorem ap_repS {l : List Nat} {a : Nat → Int32} {n : Nat} (h : ap_rep l a) : ap_rep (l ++ [n]) (upd a l.length (nI n)) := by
  intro k hk
  rw [ap_len] at hk
  by_cases e : k = l.length
  · rw [e, pk_us, ap_gr]
  · rw [pk_un e, ap_gl (by omega)]
    exact h k (by omega)
theorem ap_rep0 {a : Nat → Int32} : ap_rep [] a := fun k hk => absurd hk (Nat.not_lt_zero k)
theorem ap_memS {l : List Nat} {n m : Nat} : m ∈ l ++ [n] ↔ m ∈ l ∨ m = n := by
  rw [List.mem_append, List.mem_singleton]
theorem ap_nodS {l : List Nat} {n : Nat} (h : l.Nodup) (hn : n ∉ l) : (l ++ [n]).Nodup := by
  rw [List.nodup_append]
  refine ⟨h, List.nodup_cons.mpr ⟨List.not_mem_nil, List.nodup_nil⟩, fun a ha b hb e => ?_⟩
  rw [List.mem_singleton.mp hb] at e
  rw [e] at ha
  exact hn ha
/-! splitting: the strips of the hole h around t -/
def ap_s1 (h t : Nat) : List Nat := if ap_x h < ap_x t then [ap_pk (ap_x h) (ap_y h) (ap_x t - ap_x h) (ap_h h)] else []
def ap_s2 (h t : Nat) : List Nat := if ap_x t + ap_w t < ap_x h + ap_w h then [ap_pk (ap_x t + ap_w t) (ap_y h) (ap_x h + ap_w h - (ap_x t + ap_w t)) (ap_h h)] else []
def ap_s3 (h t : Nat) : List Nat := if ap_y h < ap_y t then [ap_pk (ap_x h) (ap_y h) (ap_w h) (ap_y t - ap_y h)] else []
def ap_s4 (h t : Nat) : List Nat := if ap_y t + ap_h t < ap_y h + ap_h h then [ap_pk (ap_x h) (ap_y t + ap_h t) (ap_w h) (ap_y h + ap_h h - (ap_y t + ap_h t))] else []
def ap_meet (a b : Nat) : Prop := ap_x a < ap_x b + ap_w b ∧ ap_x b < ap_x a + ap_w a ∧ ap_y a < ap_y b + ap_h b ∧ ap_y b < ap_y a + ap_h a
/-- what the hole h gives when t is taken: itself, or the strips -/
def ap_cd (t h c : Nat) : Prop := (¬ ap_meet h t ∧ c = h) ∨ (ap_meet h t ∧ c ∈ ap_s1 h t ++ ap_s2 h t ++ ap_s3 h t ++ ap_s4 h t)
theorem ap_if {c : Prop} [Decidable c] {x y : Nat} : y ∈ (if c then [x] else []) ↔ c ∧ y = x := by
  by_cases h : c
  · rw [if_pos h, List.mem_singleton]
    exact ⟨fun z => ⟨h, z⟩, fun z => z.2⟩
  · rw [if_neg h]
    exact ⟨fun z => absurd z List.not_mem_nil, fun z => absurd z.1 h⟩
theorem ap_spm {h t c : Nat} : c ∈ ap_s1 h t ++ ap_s2 h t ++ ap_s3 h t ++ ap_s4 h t ↔ c ∈ ap_s1 h t ∨ c ∈ ap_s2 h t ∨ c ∈ ap_s3 h t ∨ c ∈ ap_s4 h t := by
  rw [List.mem_append, List.mem_append, List.mem_append, or_assoc, or_assoc]
theorem ap_cdA {C R t h c : Nat} {F F' : Nat → Nat → Prop} (hb : ap_bd C R F) (hF : ∀ u v, F' u v ↔ F u v ∧ ¬ ap_c t u v) (hh : ap_fr F h) (hc : ap_cd t h c) : ap_fr F' c := by
  have b := ap_frb hb hh
  obtain ⟨b1, b2, _⟩ := hb
  obtain ⟨h1, h2, h3⟩ := hh
  have nx : ap_x h + ap_w h ≤ 16 := by omega
  have ny : ap_y h + ap_h h ≤ 16 := by omega
  rcases hc with ⟨hm, rfl⟩ | ⟨hm, hc⟩
  · refine ⟨h1, h2, fun u v huv => (hF u v).mpr ⟨h3 u v huv, fun ht => hm ?_⟩⟩
    obtain ⟨p1, p2, p3, p4⟩ := huv
    obtain ⟨q1, q2, q3, q4⟩ := ht
    exact ⟨by omega, by omega, by omega, by omega⟩
  · obtain ⟨m1, m2, m3, m4⟩ := hm
    rcases ap_spm.mp hc with hc | hc | hc | hc
    · obtain ⟨z, rfl⟩ := ap_if.mp hc
      refine ap_mkfr (by omega) (by omega) (by omega) (by omega) h2 (fun u v u1 u2 v1 v2 => (hF u v).mpr ⟨h3 u v ⟨u1, by omega, v1, v2⟩, fun ht => ?_⟩)
      obtain ⟨q1, q2, q3, q4⟩ := ht
      omega
    · obtain ⟨z, rfl⟩ := ap_if.mp hc
      refine ap_mkfr (by omega) (by omega) (by omega) (by omega) h2 (fun u v u1 u2 v1 v2 => (hF u v).mpr ⟨h3 u v ⟨by omega, by omega, v1, v2⟩, fun ht => ?_⟩)
      obtain ⟨q1, q2, q3, q4⟩ := ht
      omega
    · obtain ⟨z, rfl⟩ := ap_if.mp hc
      refine ap_mkfr (by omega) (by omega) (by omega) h1 (by omega) (fun u v u1 u2 v1 v2 => (hF u v).mpr ⟨h3 u v ⟨u1, u2, v1, by omega⟩, fun ht => ?_⟩)
      obtain ⟨q1, q2, q3, q4⟩ := ht
      omega
    · obtain ⟨z, rfl⟩ := ap_if.mp hc
      refine ap_mkfr (by omega) (by omega) (by omega) h1 (by omega) (fun u v u1 u2 v1 v2 => (hF u v).mpr ⟨h3 u v ⟨u1, u2, by omega, by omega⟩, fun ht => ?_⟩)
      obtain ⟨q1, q2, q3, q4⟩ := ht
      omega
theorem ap_cdB {C R t h n : Nat} {F F' : Nat → Nat → Prop} (t1 : 1 ≤ ap_w t) (t2 : 1 ≤ ap_h t) (hb : ap_bd C R F) (hF : ∀ u v, F' u v ↔ F u v ∧ ¬ ap_c t u v) (hh : ap_fr F h) (hn : ap_fr F' n) (hi : ap_ins n h) : ∃ c, ap_cd t h c ∧ ap_ins n c := by
  have b := ap_frb hb hh
  obtain ⟨b1, b2, _⟩ := hb
  by_cases hm : ap_meet h t
  · obtain ⟨i1, i2, i3, i4⟩ := hi
    obtain ⟨n1, n2, n3⟩ := hn
    have hm' := hm
    obtain ⟨m1, m2, m3, m4⟩ := hm'
    by_cases c1 : ap_x n + ap_w n ≤ ap_x t
    · refine ⟨_, Or.inr ⟨hm, ap_spm.mpr (Or.inl (ap_if.mpr ⟨?_, rfl⟩))⟩, ?_⟩
      · omega
      · exact ap_pki (by omega) (by omega) (by omega) (by omega) (by omega) (by omega) (by omega)
    · by_cases c2 : ap_x t + ap_w t ≤ ap_x n
      · refine ⟨_, Or.inr ⟨hm, ap_spm.mpr (Or.inr (Or.inl (ap_if.mpr ⟨?_, rfl⟩)))⟩, ?_⟩
        · omega
        · exact ap_pki (by omega) (by omega) (by omega) (by omega) (by omega) (by omega) (by omega)
      · by_cases c3 : ap_y n + ap_h n ≤ ap_y t
        · refine ⟨_, Or.inr ⟨hm, ap_spm.mpr (Or.inr (Or.inr (Or.inl (ap_if.mpr ⟨?_, rfl⟩))))⟩, ?_⟩
          · omega
          · exact ap_pki (by omega) (by omega) (by omega) (by omega) (by omega) (by omega) (by omega)
        · by_cases c4 : ap_y t + ap_h t ≤ ap_y n
          · refine ⟨_, Or.inr ⟨hm, ap_spm.mpr (Or.inr (Or.inr (Or.inr (ap_if.mpr ⟨?_, rfl⟩))))⟩, ?_⟩
            · omega
            · exact ap_pki (by omega) (by omega) (by omega) (by omega) (by omega) (by omega) (by omega)
          · have g := (hF _ _).mp (n3 (max (ap_x n) (ap_x t)) (max (ap_y n) (ap_y t)) ⟨by omega, by omega, by omega, by omega⟩)
            exact absurd (⟨by omega, by omega, by omega, by omega⟩ : ap_c t (max (ap_x n) (ap_x t)) (max (ap_y n) (ap_y t))) g.2
  · exact ⟨h, Or.inl ⟨hm, rfl⟩, hi⟩
/-! of the candidates those stay that no other one covers -/
def ap_cv (cs : List Nat) (k : Nat) : Prop := ∃ j, j < cs.length ∧ j ≠ k ∧ ap_ins (cs.getD k 0) (cs.getD j 0) ∧ (cs.getD j 0 ≠ cs.getD k 0 ∨ j < k)
theorem ap_kpD {cs : List Nat} {k : Nat} {F : Nat → Nat → Prop} (hA : ∀ c, c ∈ cs → ap_fr F c) (hB : ∀ n, ap_fr F n → ∃ c, c ∈ cs ∧ ap_ins n c) (hk : k < cs.length) (hc : ¬ ap_cv cs k) : ap_mx F (cs.getD k 0) := by
  refine ⟨hA _ (ap_gm hk), fun m hm hi => ?_⟩
  obtain ⟨c, hcs, hi2⟩ := hB m hm
  obtain ⟨j, hj, rfl⟩ := ap_mg hcs
  by_cases e : cs.getD j 0 = cs.getD k 0
  · rw [e] at hi2
    exact ap_insA hi2 hi
  · refine absurd ⟨j, hj, fun z => e (by rw [z]), ap_insT hi hi2, Or.inl e⟩ hc
theorem ap_kpE {cs : List Nat} {n : Nat} {F : Nat → Nat → Prop} (hA : ∀ c, c ∈ cs → ap_fr F c) (hB : ∀ n, ap_fr F n → ∃ c, c ∈ cs ∧ ap_ins n c) (hn : ap_mx F n) : ∃ k, k < cs.length ∧ ¬ ap_cv cs k ∧ cs.getD k 0 = n := by
  obtain ⟨c, hcs, hi⟩ := hB n hn.1
  have e : c = n := hn.2 c (hA c hcs) hi
  rw [e] at hcs
  obtain ⟨j, hj, hje⟩ := ap_mg hcs
  obtain ⟨k, ⟨hk, hke⟩, hl⟩ := pk_least (fun k => k < cs.length ∧ cs.getD k 0 = n) ⟨j, hj, hje⟩
  refine ⟨k, hk, fun hcv => ?_, hke⟩
  obtain ⟨i, hi1, hi2, hi3, hi4⟩ := hcv
  rw [hke] at hi3 hi4
  have e2 : cs.getD i 0 = n := hn.2 _ (hA _ (ap_gm hi1)) hi3
  rcases hi4 with z | z
  · exact z e2
  · exact hl i z ⟨hi1, e2⟩
theorem ap_kpC {cs : List Nat} {k k' : Nat} (hk : k < k') (hk' : k' < cs.length) (hc : ¬ ap_cv cs k') : cs.getD k 0 ≠ cs.getD k' 0 := by
  intro e
  exact hc ⟨k, by omega, by omega, by rw [e]; exact ap_insR _, Or.inr hk⟩
end
section
/-! heights over the row y -/
def ap_ht (F : Nat → Nat → Prop) (y : Nat) (T : Nat → Nat) : Prop := ∀ x, (∀ v, y ≤ v → v < y + T x → F x v) ∧ ¬ F x (y + T x)
theorem ap_htx {C R : Nat} {F : Nat → Nat → Prop} (hb : ap_bd C R F) (y : Nat) : ∃ T, ap_ht F y T := by
  have t : ∀ x, ∃ k, (∀ v, y ≤ v → v < y + k → F x v) ∧ ¬ F x (y + k) := by
    intro x
    obtain ⟨k, hk, hl⟩ := pk_least (fun t => ¬ F x (y + t)) ⟨R, fun z => absurd (hb.2.2 _ _ z).2 (by omega)⟩
    refine ⟨k, fun v v1 v2 => ?_, hk⟩
    have g : ¬ ¬ F x (y + (v - y)) := hl (v - y) (by omega)
    rw [show y + (v - y) = v by omega] at g
    exact Classical.byContradiction g
  exact ⟨fun x => Classical.choose (t x), fun x => Classical.choose_spec (t x)⟩
theorem ap_hti {F : Nat → Nat → Prop} {y x h : Nat} {T : Nat → Nat} (ht : ap_ht F y T) (H : ∀ v, y ≤ v → v < y + h → F x v) : h ≤ T x := by
  rcases Nat.lt_or_ge (T x) h with z | z
  · exact absurd (H _ (by omega) (by omega)) (ht x).2
  · exact z
/-- the stack ahead of column x: d strips that still go on (start, height): all that end on the left and are touched from above -/
def ap_stk (T : Nat → Nat) (x d : Nat) (S K : Nat → Nat) : Prop :=
  d ≤ x ∧ (∀ i, i < d → 1 ≤ K i ∧ S i < x ∧ (∀ u, S i ≤ u → u < x → K i ≤ T u) ∧ (∀ u, u + 1 = S i → T u < K i) ∧ ∃ u, S i ≤ u ∧ u < x ∧ T u = K i) ∧
  (∀ i j, i < j → j < d → K i < K j) ∧
  (∀ s h, 1 ≤ h → s < x → (∀ u, s ≤ u → u < x → h ≤ T u) → (∀ u, u + 1 = s → T u < h) → (∃ u, s ≤ u ∧ u < x ∧ T u = h) → ∃ i, i < d ∧ S i = s ∧ K i = h)
theorem ap_stk0 {T S K : Nat → Nat} : ap_stk T 0 0 S K :=
  ⟨Nat.le_refl 0, fun i hi => absurd hi (Nat.not_lt_zero i), fun i j _ hj => absurd hj (Nat.not_lt_zero j), fun s h _ hs => absurd hs (Nat.not_lt_zero s)⟩
theorem ap_uq {T : Nat → Nat} {s s' h x : Nat} (a : ∀ u, s ≤ u → u < x → h ≤ T u) (b : ∀ u, u + 1 = s → T u < h) (a' : ∀ u, s' ≤ u → u < x → h ≤ T u) (b' : ∀ u, u + 1 = s' → T u < h) (hs : s ≤ x) (hs' : s' ≤ x) : s = s' := by
  rcases Nat.lt_trichotomy s s' with z | z | z
  · have g1 := a (s' - 1) (by omega) (by omega)
    have g2 := b' (s' - 1) (by omega)
    omega
  · exact z
  · have g1 := a' (s - 1) (by omega) (by omega)
    have g2 := b (s - 1) (by omega)
    omega
theorem ap_lm {T : Nat → Nat} {x h : Nat} : ∀ p, (∀ u, p ≤ u → u < x → h ≤ T u) → ∃ s, s ≤ p ∧ (∀ u, s ≤ u → u < x → h ≤ T u) ∧ (∀ u, u + 1 = s → T u < h) := by
  intro p
  induction p with
  | zero => exact fun H => ⟨0, Nat.le_refl 0, H, fun u hu => absurd hu (by omega)⟩
  | succ p ih =>
    intro H
    rcases Nat.lt_or_ge (T p) h with z | z
    · refine ⟨p + 1, Nat.le_refl _, H, fun u hu => ?_⟩
      rw [show u = p by omega]
      exact z
    · obtain ⟨s, s1, s2, s3⟩ := ih (fun u u1 u2 => by
        by_cases e : u = p
        · rw [e]
          exact z
        · exact H u (by omega) u2)
      exact ⟨s, by omega, s2, s3⟩
/-- column x closed what was higher; nothing is pushed -/
theorem ap_stkN {T S K : Nat → Nat} {x d d' : Nat} (h : ap_stk T x d S K) (hd : d' ≤ d) (hp : ∀ i, d' ≤ i → i < d → T x < K i) (hq : ∀ i, i < d' → K i ≤ T x) (hn : T x = 0 ∨ ∃ i, i < d' ∧ K i = T x) : ap_stk T (x + 1) d' S K := by
  obtain ⟨h1, h2, h3, h4⟩ := h
  refine ⟨by omega, fun i hi => ?_, fun i j hij hj => h3 i j hij (by omega), fun s hh a1 a2 a3 a4 a5 => ?_⟩
  · obtain ⟨p1, p2, p3, p4, u, p5, p6, p7⟩ := h2 i (by omega)
    refine ⟨p1, by omega, fun u' u1 u2 => ?_, p4, u, p5, by omega, p7⟩
    by_cases e : u' = x
    · rw [e]
      exact hq i hi
    · exact p3 u' u1 (by omega)
  · have hx : hh ≤ T x := a3 x (by omega) (by omega)
    rcases Nat.lt_or_ge hh (T x) with z | z
    · obtain ⟨u, u1, u2, u3⟩ := a5
      have ux : u ≠ x := fun e => by
        rw [e] at u3
        omega
      obtain ⟨i, i1, i2, i3⟩ := h4 s hh a1 (by omega) (fun u' p q => a3 u' p (by omega)) a4 ⟨u, u1, by omega, u3⟩
      refine ⟨i, ?_, i2, i3⟩
      rcases Nat.lt_or_ge i d' with w | w
      · exact w
      · exact absurd (hp i w i1) (by omega)
    · rcases hn with hn | ⟨i, i1, i2⟩
      · omega
      · obtain ⟨p1, p2, p3, p4, _⟩ := h2 i (by omega)
        have e : K i = hh := by omega
        rw [e] at p3 p4
        exact ⟨i, i1, ap_uq p3 p4 (fun u p q => a3 u p (by omega)) a4 (by omega) (by omega), e⟩
/-- and the strip of column x is pushed -/
theorem ap_stkP {T S K S' K' : Nat → Nat} {x d d' st : Nat} (h : ap_stk T x d S K) (hd : d' ≤ d) (hp : ∀ i, d' ≤ i → i < d → T x < K i) (hq : ∀ i, i < d' → K i < T x) (h0 : 0 < T x) (e1 : d' = d → st = x) (e2 : d' < d → st = S d')
    (hS : ∀ i, i < d' → S' i = S i) (hS' : S' d' = st) (hK : ∀ i, i < d' → K' i = K i) (hK' : K' d' = T x) : ap_stk T (x + 1) (d' + 1) S' K' := by
  obtain ⟨h1, h2, h3, h4⟩ := h
  have f1 : st ≤ x := by
    rcases Nat.lt_or_ge d' d with z | z
    · have g := (h2 d' z).2.1
      rw [← e2 z] at g
      omega
    · rw [e1 (by omega)]
      exact Nat.le_refl x
  have f2 : ∀ u, st ≤ u → u < x → T x < T u := by
    intro u u1 u2
    rcases Nat.lt_or_ge d' d with z | z
    · rw [e2 z] at u1
      have g := (h2 d' z).2.2.1 u u1 u2
      have g2 := hp d' (Nat.le_refl _) z
      omega
    · rw [e1 (by omega)] at u1
      omega
  have f3 : ∀ u, u + 1 = st → T u < T x := by
    intro u hu
    rcases Nat.lt_or_ge (T u) (T x) with z | z
    · exact z
    · obtain ⟨s, s1, s2, s3⟩ := ap_lm (T := T) (x := x) (h := T u) u (fun u' p q => by
        by_cases e : u' = u
        · rw [e]
          exact Nat.le_refl _
        · rcases Nat.lt_or_ge d' d with w | w
          · have g := (h2 d' w).2.2.1 u' (by rw [← e2 w]; omega) q
            have g2 := (h2 d' w).2.2.2.1 u (by rw [← e2 w]; exact hu)
            omega
          · have g := e1 (by omega)
            omega)
      obtain ⟨i, i1, i2, i3⟩ := h4 s (T u) (by omega) (by omega) s2 s3 ⟨u, s1, by omega, rfl⟩
      rcases Nat.lt_or_ge i d' with w | w
      · have g := hq i w
        omega
      · have g2 := (h2 d' (by omega)).2.2.2.1 u (by rw [← e2 (by omega)]; exact hu)
        by_cases e : i = d'
        · rw [e] at i3
          omega
        · have g3 := h3 d' i (by omega) i1
          omega
  refine ⟨by omega, fun i hi => ?_, fun i j hij hj => ?_, fun s hh a1 a2 a3 a4 a5 => ?_⟩
  · by_cases e : i = d'
    · rw [e, hS', hK']
      refine ⟨h0, by omega, fun u u1 u2 => ?_, f3, x, f1, by omega, rfl⟩
      by_cases e' : u = x
      · rw [e']
        exact Nat.le_refl _
      · exact Nat.le_of_lt (f2 u u1 (by omega))
    · rw [hS i (by omega), hK i (by omega)]
      obtain ⟨p1, p2, p3, p4, u, p5, p6, p7⟩ := h2 i (by omega)
      refine ⟨p1, by omega, fun u' u1 u2 => ?_, p4, u, p5, by omega, p7⟩
      by_cases e' : u' = x
      · rw [e']
        exact Nat.le_of_lt (hq i (by omega))
      · exact p3 u' u1 (by omega)
  · rw [hK i (by omega)]
    by_cases e : j = d'
    · rw [e, hK']
      exact hq i (by omega)
    · rw [hK j (by omega)]
      exact h3 i j hij (by omega)
  · have hx : hh ≤ T x := a3 x (by omega) (by omega)
    rcases Nat.lt_or_ge hh (T x) with z | z
    · obtain ⟨u, u1, u2, u3⟩ := a5
      have ux : u ≠ x := fun e => by
        rw [e] at u3
        omega
      obtain ⟨i, i1, i2, i3⟩ := h4 s hh a1 (by omega) (fun u' p q => a3 u' p (by omega)) a4 ⟨u, u1, by omega, u3⟩
      have w : i < d' := by
        rcases Nat.lt_or_ge i d' with w | w
        · exact w
        · exact absurd (hp i w i1) (by omega)
      exact ⟨i, by omega, by rw [hS i w, i2], by rw [hK i w, i3]⟩
    · have e : hh = T x := by omega
      rw [e] at a3 a4
      refine ⟨d', by omega, ?_, by rw [hK', e]⟩
      rw [hS']
      exact ap_uq (x := x) (fun u p q => Nat.le_of_lt (f2 u p q)) f3 (fun u p q => a3 u p (by omega)) a4 f1 (by omega)
/-! what is kept -/
theorem ap_popB {C R x d i y : Nat} {F : Nat → Nat → Prop} {T S K : Nat → Nat} (hb : ap_bd C R F) (ht : ap_ht F y T) (hs : ap_stk T x d S K) (hi : i < d) (hxC : x ≤ C) : 1 ≤ K i ∧ y + K i ≤ 16 ∧ S i < x ∧ x ≤ 16 := by
  obtain ⟨h1, h2, h3, h4⟩ := hs
  obtain ⟨p1, p2, p3, p4, _⟩ := h2 i hi
  have g := p3 (S i) (Nat.le_refl _) p2
  have g2 := hb.2.2 _ _ ((ht (S i)).1 (y + K i - 1) (by omega) (by omega))
  obtain ⟨b1, b2, _⟩ := hb
  omega
theorem ap_popM {C R x d i y : Nat} {F : Nat → Nat → Prop} {T S K : Nat → Nat} (hb : ap_bd C R F) (ht : ap_ht F y T) (hs : ap_stk T x d S K) (hi : i < d) (hx : T x < K i) (hxC : x ≤ C) (hlow : 0 < y → ∃ u, S i ≤ u ∧ u < x ∧ ¬ F u (y - 1)) : ap_mx F (ap_pk (S i) y (x - S i) (K i)) := by
  obtain ⟨q1, q2, q3, q4⟩ := ap_popB hb ht hs hi hxC
  obtain ⟨h1, h2, h3, h4⟩ := hs
  obtain ⟨p1, p2, p3, p4, u0, p5, p6, p7⟩ := h2 i hi
  have y32 : y < 32 := by omega
  have w32 : x - S i < 32 := by omega
  have k32 : K i < 32 := by omega
  refine ⟨ap_mkfr y32 w32 k32 (by omega) p1 (fun u v u1 u2 v1 v2 => ?_), fun m hm hi => ?_⟩
  · have g := p3 u u1 (by omega)
    exact (ht u).1 v v1 (by omega)
  · unfold ap_ins at hi
    rw [ap_pkx y32 w32 k32, ap_pky y32 w32 k32, ap_pkw y32 w32 k32, ap_pkh y32 w32 k32] at hi
    obtain ⟨j1, j2, j3, j4⟩ := hi
    have yy : ap_y m = y := by
      rcases Nat.lt_or_ge (ap_y m) y with z | z
      · obtain ⟨u, u1, u2, u3⟩ := hlow (by omega)
        exact absurd (hm.2.2 u (y - 1) ⟨by omega, by omega, by omega, by omega⟩) u3
      · omega
    have hT : ∀ u, ap_x m ≤ u → u < ap_x m + ap_w m → ap_h m ≤ T u := fun u u1 u2 => ap_hti ht (fun v v1 v2 => hm.2.2 u v ⟨u1, u2, by omega, by omega⟩)
    have hh : ap_h m = K i := by
      have g := hT u0 (by omega) (by omega)
      omega
    have xx : ap_x m = S i := by
      rcases Nat.lt_or_ge (ap_x m) (S i) with z | z
      · have g := hT (S i - 1) (by omega) (by omega)
        have g2 := p4 (S i - 1) (by omega)
        omega
      · omega
    have ww : ap_x m + ap_w m = x := by
      rcases Nat.lt_or_ge x (ap_x m + ap_w m) with z | z
      · have g := hT x (by omega) z
        omega
      · omega
    apply ap_ext
    · rw [ap_pkx y32 w32 k32, xx]
    · rw [ap_pky y32 w32 k32, yy]
    · rw [ap_pkw y32 w32 k32]
      omega
    · rw [ap_pkh y32 w32 k32, hh]
theorem ap_popN {C R x d i y : Nat} {F : Nat → Nat → Prop} {T S K : Nat → Nat} (hb : ap_bd C R F) (ht : ap_ht F y T) (hs : ap_stk T x d S K) (hi : i < d) (hxC : x ≤ C) (hy : 0 < y) (hlow : ∀ u, S i ≤ u → u < x → F u (y - 1)) : ¬ ap_mx F (ap_pk (S i) y (x - S i) (K i)) := by
  intro hm
  obtain ⟨q1, q2, q3, q4⟩ := ap_popB hb ht hs hi hxC
  have y32 : y < 32 := by omega
  have w32 : x - S i < 32 := by omega
  have k32 : K i < 32 := by omega
  obtain ⟨u, u1, u2, u3⟩ := ap_dn hb hm (by rw [ap_pky y32 w32 k32]; exact hy)
  rw [ap_pkx y32 w32 k32] at u1 u2
  rw [ap_pkw y32 w32 k32] at u2
  rw [ap_pky y32 w32 k32] at u3
  exact u3 (hlow u u1 (by omega))
theorem ap_emC {C R x d n y : Nat} {F : Nat → Nat → Prop} {T S K : Nat → Nat} (hb : ap_bd C R F) (ht : ap_ht F y T) (hs : ap_stk T x d S K) (hm : ap_mx F n) (hy : ap_y n = y) (hx : ap_x n + ap_w n = x) : ∃ i, i < d ∧ T x < K i ∧ n = ap_pk (S i) y (x - S i) (K i) := by
  have bb := ap_frb hb hm.1
  have f1 : ∀ u, ap_x n ≤ u → u < x → ap_h n ≤ T u := fun u u1 u2 => ap_hti ht (fun v v1 v2 => hm.1.2.2 u v ⟨u1, by omega, by omega, by omega⟩)
  have f2 : ∀ u, u + 1 = ap_x n → T u < ap_h n := by
    intro u hu
    obtain ⟨v, v1, v2, v3⟩ := ap_lf hb hm hu
    rcases Nat.lt_or_ge (T u) (ap_h n) with z | z
    · exact z
    · exact absurd ((ht u).1 v (by omega) (by omega)) v3
  have f3 : ∃ u, ap_x n ≤ u ∧ u < x ∧ T u = ap_h n := by
    obtain ⟨u, u1, u2, u3⟩ := ap_up hb hm
    refine ⟨u, u1, by omega, ?_⟩
    have g := f1 u u1 (by omega)
    rcases Nat.lt_or_ge (ap_h n) (T u) with z | z
    · rw [hy] at u3
      exact absurd ((ht u).1 (y + ap_h n) (by omega) (by omega)) u3
    · omega
  have f4 : T x < ap_h n := by
    obtain ⟨v, v1, v2, v3⟩ := ap_rt hb hm
    rw [hx] at v3
    rcases Nat.lt_or_ge (T x) (ap_h n) with z | z
    · exact z
    · exact absurd ((ht x).1 v (by omega) (by omega)) v3
  have w1 := hm.1.1
  have hh1 := hm.1.2.1
  obtain ⟨h1, h2, h3, h4⟩ := hs
  obtain ⟨b1, b2, _⟩ := hb
  obtain ⟨i, i1, i2, i3⟩ := h4 (ap_x n) (ap_h n) hh1 (by omega) f1 f2 f3
  refine ⟨i, i1, by omega, ?_⟩
  have y32 : y < 32 := by omega
  have w32 : x - S i < 32 := by omega
  have k32 : K i < 32 := by omega
  apply ap_ext
  · rw [ap_pkx y32 w32 k32, i2]
  · rw [ap_pky y32 w32 k32, hy]
  · rw [ap_pkw y32 w32 k32]
    omega
  · rw [ap_pkh y32 w32 k32, i3]
/-- the holes that are found ahead of column x of row y -/
def ap_done (F : Nat → Nat → Prop) (y x n : Nat) : Prop := ap_mx F n ∧ (ap_y n < y ∨ (ap_y n = y ∧ ap_x n + ap_w n < x))
def ap_P (F : Nat → Nat → Prop) (y x : Nat) (S K : Nat → Nat) (d d' n : Nat) : Prop := ap_done F y x n ∨ (ap_mx F n ∧ ∃ i, d' ≤ i ∧ i < d ∧ n = ap_pk (S i) y (x - S i) (K i))
theorem ap_P0 {F : Nat → Nat → Prop} {x d n y : Nat} {S K : Nat → Nat} : ap_P F y x S K d d n ↔ ap_done F y x n := by
  refine ⟨fun h => ?_, fun h => Or.inl h⟩
  rcases h with h | ⟨_, i, i1, i2, _⟩
  · exact h
  · omega
theorem ap_Ps {F : Nat → Nat → Prop} {x d d' n y : Nat} {S K : Nat → Nat} (hd : d' < d) : ap_P F y x S K d d' n ↔ ap_P F y x S K d (d' + 1) n ∨ (ap_mx F n ∧ n = ap_pk (S d') y (x - S d') (K d')) := by
  constructor
  · intro h
    rcases h with h | ⟨h, i, i1, i2, i3⟩
    · exact Or.inl (Or.inl h)
    · by_cases e : i = d'
      · rw [e] at i3
        exact Or.inr ⟨h, i3⟩
      · exact Or.inl (Or.inr ⟨h, i, by omega, i2, i3⟩)
  · intro h
    rcases h with (h | ⟨h, i, i1, i2, i3⟩) | ⟨h, e⟩
    · exact Or.inl h
    · exact Or.inr ⟨h, i, by omega, i2, i3⟩
    · exact Or.inr ⟨h, d', Nat.le_refl _, hd, e⟩
theorem ap_Pn {C R x d d' y : Nat} {F : Nat → Nat → Prop} {T S K : Nat → Nat} (hb : ap_bd C R F) (ht : ap_ht F y T) (hs : ap_stk T x d S K) (hd : d' < d) (hxC : x ≤ C) : ¬ ap_P F y x S K d (d' + 1) (ap_pk (S d') y (x - S d') (K d')) := by
  obtain ⟨q1, q2, q3, q4⟩ := ap_popB hb ht hs hd hxC
  have y32 : y < 32 := by omega
  have w32 : x - S d' < 32 := by omega
  have k32 : K d' < 32 := by omega
  intro h
  rcases h with ⟨_, h⟩ | ⟨_, i, i1, i2, i3⟩
  · rw [ap_pkx y32 w32 k32, ap_pky y32 w32 k32, ap_pkw y32 w32 k32] at h
    omega
  · obtain ⟨r1, r2, r3, r4⟩ := ap_popB hb ht hs i2 hxC
    have e := congrArg ap_h i3
    rw [ap_pkh y32 w32 k32, ap_pkh y32 (by omega) (by omega)] at e
    have g := hs.2.2.1 d' i (by omega) i2
    omega
theorem ap_Pe {C R x d d' n y : Nat} {F : Nat → Nat → Prop} {T S K : Nat → Nat} (hb : ap_bd C R F) (ht : ap_ht F y T) (hs : ap_stk T x d S K) (hxC : x ≤ C) (hq : ∀ i, i < d' → K i ≤ T x) : ap_P F y x S K d d' n ↔ ap_done F y (x + 1) n := by
  constructor
  · intro h
    rcases h with ⟨h, h'⟩ | ⟨h, i, i1, i2, i3⟩
    · exact ⟨h, by omega⟩
    · obtain ⟨r1, r2, r3, r4⟩ := ap_popB hb ht hs i2 hxC
      refine ⟨h, Or.inr ?_⟩
      rw [i3, ap_pkx (by omega) (by omega) (by omega), ap_pky (by omega) (by omega) (by omega), ap_pkw (by omega) (by omega) (by omega)]
      omega
  · intro h
    obtain ⟨h, h'⟩ := h
    by_cases z : ap_y n < y ∨ (ap_y n = y ∧ ap_x n + ap_w n < x)
    · exact Or.inl ⟨h, z⟩
    · obtain ⟨i, i1, i2, i3⟩ := ap_emC hb ht hs h (by omega) (by omega)
      refine Or.inr ⟨h, i, ?_, i1, i3⟩
      rcases Nat.lt_or_ge i d' with w | w
      · have g := hq i w
        omega
      · exact w
end
section
/-! bits -/
theorem ap_sl : ∀ n, n < 32 → ((nI n &&& 31).toBitVec.smod 32).toNat = n := by decide +kernel
theorem ap_byte : ∀ t, t < 128 → (nI t).toInt8.toInt32 = nI t := by decide +kernel
theorem ap_and (a b : Nat) : nI a &&& nI b = nI (a &&& b) := by
  apply Int32.toBitVec_inj.1
  show BitVec.ofNat 32 a &&& BitVec.ofNat 32 b = BitVec.ofNat 32 (a &&& b)
  apply BitVec.eq_of_getLsbD_eq
  intro i hi
  simp [hi]
theorem ap_xor (a b : Nat) : nI a ^^^ nI b = nI (a ^^^ b) := by
  apply Int32.toBitVec_inj.1
  show BitVec.ofNat 32 a ^^^ BitVec.ofNat 32 b = BitVec.ofNat 32 (a ^^^ b)
  apply BitVec.eq_of_getLsbD_eq
  intro i hi
  simp [hi]
theorem ap_or (a b : Nat) : nI a ||| nI b = nI (a ||| b) := by
  apply Int32.toBitVec_inj.1
  show BitVec.ofNat 32 a ||| BitVec.ofNat 32 b = BitVec.ofNat 32 (a ||| b)
  apply BitVec.eq_of_getLsbD_eq
  intro i hi
  simp [hi]
theorem ap_sh1 {w : Nat} (hw : w ≤ 16) : ((1 : Int32) <<< (nI w &&& 31)) - 1 = nI (2 ^ w - 1) := by
  have p1 : 2 ^ w ≤ 2 ^ 16 := Nat.pow_le_pow_right (by omega) hw
  have p3 : 1 ≤ 2 ^ w := Nat.one_le_two_pow
  have t := pk_shlN (n := 1) (nI w &&& 31) w (ap_sl w (by omega)) (by rw [Nat.one_mul]; omega)
  rw [Nat.one_mul] at t
  have e1 : (1 : Int32) <<< (nI w &&& 31) = nI (2 ^ w) := t
  rw [e1]
  exact pk_sub (a := 2 ^ w) (b := 1) p3
theorem ap_strip {w x : Nat} (hw : w ≤ 16) (hx : x ≤ 16) : (((1 : Int32) <<< (nI w &&& 31)) - 1) <<< (nI x &&& 31) = nI ((2 ^ w - 1) * 2 ^ x) := by
  have p1 : 2 ^ w ≤ 2 ^ 16 := Nat.pow_le_pow_right (by omega) hw
  have p2 : 2 ^ x ≤ 2 ^ 16 := Nat.pow_le_pow_right (by omega) hx
  rw [ap_sh1 hw]
  refine pk_shlN _ x (ap_sl x (by omega)) (Nat.lt_of_le_of_lt (Nat.mul_le_mul (show 2 ^ w - 1 ≤ 65535 by omega) (show 2 ^ x ≤ 65536 by omega)) (by decide))
theorem ap_stb {w x u : Nat} : ((2 ^ w - 1) * 2 ^ x).testBit u = true ↔ x ≤ u ∧ u < x + w := by
  rw [Nat.testBit_mul_two_pow, Nat.testBit_two_pow_sub_one, Bool.and_eq_true, decide_eq_true_iff, decide_eq_true_iff]
  omega
theorem ap_stl {w x : Nat} (h : x + w ≤ 16) : (2 ^ w - 1) * 2 ^ x < 2 ^ 16 := by
  apply Nat.lt_pow_two_of_testBit
  intro i hi
  cases e : ((2 ^ w - 1) * 2 ^ x).testBit i with
  | false => rfl
  | true =>
    have g := ap_stb.mp e
    omega
/-- a row of free cells as a number -/
def ap_row (P : Nat → Prop) (b : Int32) : Prop := ∃ m, m < 65536 ∧ b = nI m ∧ ∀ u, m.testBit u = true ↔ P u
theorem ap_rowX {P Q : Nat → Prop} {b : Int32} {w x : Nat} (h : ap_row P b) (hwx : x + w ≤ 16) (hQ : ∀ u, Q u ↔ ((P u ∧ ¬ (x ≤ u ∧ u < x + w)) ∨ (¬ P u ∧ (x ≤ u ∧ u < x + w)))) : ap_row Q (b ^^^ nI ((2 ^ w - 1) * 2 ^ x)) := by
  obtain ⟨m, hm, rfl, hp⟩ := h
  refine ⟨m ^^^ ((2 ^ w - 1) * 2 ^ x), Nat.xor_lt_two_pow (n := 16) hm (ap_stl hwx), ap_xor _ _, fun u => ?_⟩
  rw [Nat.testBit_xor, hQ u, ← hp u, ← ap_stb (w := w) (x := x) (u := u)]
  cases m.testBit u <;> cases ((2 ^ w - 1) * 2 ^ x).testBit u <;> simp
theorem ap_bit {P : Nat → Prop} {b : Int32} {x : Nat} (h : ap_row P b) (hx : x ≤ 16) : ((b >>> (nI x &&& 31)) &&& 1) = 0 ↔ ¬ P x := by
  obtain ⟨m, hm, rfl, hp⟩ := h
  have g : m / 2 ^ x ≤ m := Nat.div_le_self _ _
  rw [pk_shrN (by omega) _ x (ap_sl x (by omega)), pk_andN (m := 1) (by omega) 1 (by decide), ← nI_0, nI_eq (by omega) (by omega), ← hp x, Nat.testBit_eq_decide_div_mod_eq, decide_eq_true_iff]
  omega
theorem ap_cov {P : Nat → Prop} {b : Int32} {w x : Nat} (h : ap_row P b) (hwx : x + w ≤ 16) : (b &&& nI ((2 ^ w - 1) * 2 ^ x)) = nI ((2 ^ w - 1) * 2 ^ x) ↔ ∀ u, x ≤ u → u < x + w → P u := by
  obtain ⟨m, hm, rfl, hp⟩ := h
  have l1 := ap_stl hwx
  have l2 : m &&& ((2 ^ w - 1) * 2 ^ x) ≤ (2 ^ w - 1) * 2 ^ x := Nat.and_le_right
  rw [ap_and, nI_eq (by omega) (by omega)]
  constructor
  · intro e u u1 u2
    have t : (m &&& ((2 ^ w - 1) * 2 ^ x)).testBit u = true := by
      rw [e]
      exact ap_stb.mpr ⟨u1, u2⟩
    rw [Nat.testBit_and, Bool.and_eq_true] at t
    exact (hp u).mp t.1
  · intro H
    apply Nat.eq_of_testBit_eq
    intro u
    rw [Nat.testBit_and]
    cases e : ((2 ^ w - 1) * 2 ^ x).testBit u with
    | false => rw [Bool.and_false]
    | true =>
      have g := ap_stb.mp e
      rw [(hp u).mpr (H u g.1 g.2)]
      rfl
/-! packing -/
theorem ap_orN {a b i q : Nat} (hb : b < 2 ^ i) (c : a = 2 ^ i * q) : a ||| b = a + b := by
  rw [c]
  exact (Nat.two_pow_add_eq_or_of_lt hb q).symm
theorem ap_packN {x y w h : Nat} (hx : x < 32) (hy : y < 32) (hw : w < 32) (hh : h < 32) : (((nI x <<< ((15 : Int32) &&& 31)) ||| (nI y <<< ((10 : Int32) &&& 31))) ||| (nI w <<< ((5 : Int32) &&& 31))) ||| nI h = nI (ap_pk x y w h) := by
  rw [pk_shlN (n := x) ((15 : Int32) &&& 31) 15 (by decide) (by omega), pk_shlN (n := y) ((10 : Int32) &&& 31) 10 (by decide) (by omega), pk_shlN (n := w) ((5 : Int32) &&& 31) 5 (by decide) (by omega), ap_or, ap_or, ap_or]
  rw [ap_orN (a := x * 2 ^ 15) (b := y * 2 ^ 10) (i := 15) (q := x) (by omega) (by omega)]
  rw [ap_orN (a := x * 2 ^ 15 + y * 2 ^ 10) (b := w * 2 ^ 5) (i := 10) (q := x * 32 + y) (by omega) (by omega)]
  rw [ap_orN (a := x * 2 ^ 15 + y * 2 ^ 10 + w * 2 ^ 5) (b := h) (i := 5) (q := x * 1024 + y * 32 + w) (by omega) (by omega)]
  rfl
theorem ap_xlt {n : Nat} (h : n < 1048576) : ap_x n < 32 := by
  unfold ap_x
  omega
theorem ap_pack {post : Int32 → Prop} {u : St2} {p0 p1 p2 p3 : Int32} (x y w h : Nat) (e0 : p0 = nI x) (e1 : p1 = nI y) (e2 : p2 = nI w) (e3 : p3 = nI h) (hx : x < 32) (hy : y < 32) (hw : w < 32) (hh : h < 32) (hp : post (nI (ap_pk x y w h))) : wpX_pack post u p0 p1 p2 p3 := by
  obtain ⟨c0, c1, c2, c3, c4, a1, a2, a3, a4, a5, a6, a7, a8, a9⟩ := u
  rw [e0, e1, e2, e3]
  show post ((((nI x <<< ((15 : Int32) &&& 31)) ||| (nI y <<< ((10 : Int32) &&& 31))) ||| (nI w <<< ((5 : Int32) &&& 31))) ||| nI h)
  rw [ap_packN hx hy hw hh]
  exact hp
theorem ap_leftOf {post : Int32 → Prop} {u : St2} {p : Int32} {n : Nat} (e : p = nI n) (hn : n < 1048576) (h : post (nI (ap_x n))) : wpX_leftOf post u p := by
  obtain ⟨c0, c1, c2, c3, c4, a1, a2, a3, a4, a5, a6, a7, a8, a9⟩ := u
  rw [e]
  show post (nI n >>> ((15 : Int32) &&& 31))
  rw [pk_shrN (by omega) _ 15 (by decide)]
  exact h
theorem ap_bottomOf {post : Int32 → Prop} {u : St2} {p : Int32} {n : Nat} (e : p = nI n) (hn : n < 1048576) (h : post (nI (ap_y n))) : wpX_bottomOf post u p := by
  obtain ⟨c0, c1, c2, c3, c4, a1, a2, a3, a4, a5, a6, a7, a8, a9⟩ := u
  rw [e]
  show post ((nI n >>> ((10 : Int32) &&& 31)) &&& 31)
  rw [pk_shrN (by omega) _ 10 (by decide), pk_andN (m := 31) (by omega) 5 (by decide)]
  exact h
theorem ap_wideOf {post : Int32 → Prop} {u : St2} {p : Int32} {n : Nat} (e : p = nI n) (hn : n < 1048576) (h : post (nI (ap_w n))) : wpX_wideOf post u p := by
  obtain ⟨c0, c1, c2, c3, c4, a1, a2, a3, a4, a5, a6, a7, a8, a9⟩ := u
  rw [e]
  show post ((nI n >>> ((5 : Int32) &&& 31)) &&& 31)
  rw [pk_shrN (by omega) _ 5 (by decide), pk_andN (m := 31) (by omega) 5 (by decide)]
  exact h
theorem ap_highOf {post : Int32 → Prop} {u : St2} {p : Int32} {n : Nat} (e : p = nI n) (hn : n < 1048576) (h : post (nI (ap_h n))) : wpX_highOf post u p := by
  obtain ⟨c0, c1, c2, c3, c4, a1, a2, a3, a4, a5, a6, a7, a8, a9⟩ := u
  rw [e]
  show post (nI n &&& 31)
  rw [pk_andN (m := 31) (by omega) 5 (by decide)]
  exact h
theorem ap_meets {post : Int32 → Prop} {u : St2} {p q : Int32} {a b : Nat} (ea : p = nI a) (eb : q = nI b) (ha : a < 1048576) (hb : b < 1048576) (H1 : ap_meet a b → post 1) (H0 : ¬ ap_meet a b → post 0) : wpX_meets post u p q := by
  obtain ⟨c0, c1, c2, c3, c4, a1, a2, a3, a4, a5, a6, a7, a8, a9⟩ := u
  have xa := ap_xlt ha
  have xb := ap_xlt hb
  have ba := ap_b32 a
  have bb := ap_b32 b
  unfold wpX_meets
  refine ap_leftOf ea ha (ap_leftOf eb hb (ap_wideOf eb hb ?_))
  refine pk_le (ap_x b + ap_w b) (ap_x a) (fun z => H0 (fun t => absurd t.1 (by omega))) (fun z1 => ?_) (nI_add _ _)
  refine ap_leftOf eb hb (ap_leftOf ea ha (ap_wideOf ea ha ?_))
  refine pk_lt (ap_x b) (ap_x a + ap_w a) (fun z2 => ?_) (fun z => H0 (fun t => absurd t.2.1 (by omega))) rfl (nI_add _ _)
  refine ap_bottomOf ea ha (ap_bottomOf eb hb (ap_highOf eb hb ?_))
  refine pk_le (ap_y b + ap_h b) (ap_y a) (fun z => H0 (fun t => absurd t.2.2.1 (by omega))) (fun z3 => ?_) (nI_add _ _)
  refine ap_bottomOf eb hb (ap_bottomOf ea ha (ap_highOf ea ha ?_))
  exact pk_le (ap_y a + ap_h a) (ap_y b) (fun z => H0 (fun t => absurd t.2.2.2 (by omega))) (fun z4 => H1 ⟨z1, z2, z3, z4⟩) (nI_add _ _)
theorem ap_inside {post : Int32 → Prop} {u : St2} {p q : Int32} {a b : Nat} (ea : p = nI a) (eb : q = nI b) (ha : a < 1048576) (hb : b < 1048576) (H1 : ap_ins a b → post 1) (H0 : ¬ ap_ins a b → post 0) : wpX_inside post u p q := by
  obtain ⟨c0, c1, c2, c3, c4, a1, a2, a3, a4, a5, a6, a7, a8, a9⟩ := u
  have xa := ap_xlt ha
  have xb := ap_xlt hb
  have ba := ap_b32 a
  have bb := ap_b32 b
  unfold wpX_inside
  refine ap_leftOf ea ha (ap_leftOf eb hb ?_)
  refine pk_lt (ap_x a) (ap_x b) (fun z => H0 (fun t => absurd t.1 (by omega))) (fun z1 => ?_)
  refine ap_bottomOf ea ha (ap_bottomOf eb hb ?_)
  refine pk_le (ap_y b) (ap_y a) (fun z2 => ?_) (fun z => H0 (fun t => absurd t.2.1 (by omega)))
  refine ap_leftOf ea ha (ap_wideOf ea ha (ap_leftOf eb hb (ap_wideOf eb hb ?_)))
  refine pk_le (ap_x a + ap_w a) (ap_x b + ap_w b) (fun z3 => ?_) (fun z => H0 (fun t => absurd t.2.2.1 (by omega))) (nI_add _ _) (nI_add _ _)
  refine ap_bottomOf ea ha (ap_highOf ea ha (ap_bottomOf eb hb (ap_highOf eb hb ?_)))
  exact pk_lt (ap_y b + ap_h b) (ap_y a + ap_h a) (fun z => H0 (fun t => absurd t.2.2.2 (by omega))) (fun z4 => H1 ⟨z1, z2, z3, z4⟩) (nI_add _ _) (nI_add _ _)
end
section
/-! the state: the rectangles, the rows, the holes -/
def ap_cell (L B W H : Nat → Nat) (i u v : Nat) : Prop := L i ≤ u ∧ u < L i + W i ∧ B i ≤ v ∧ v < B i + H i
/-- the arrays hold the rectangles -/
def ap_arr (L B W H : Nat → Nat) (a1 a2 a3 a4 : Nat → Int32) : Prop := ∀ i, i < 20 → a1 i = nI (L i) ∧ a2 i = nI (B i) ∧ a3 i = nI (W i) ∧ a4 i = nI (H i) ∧ L i ≤ 16 ∧ B i ≤ 16 ∧ W i ≤ 16 ∧ H i ≤ 16
/-- the rectangles lie on the sheet and don't meet -/
def ap_geo (C R : Nat) (L B W H : Nat → Nat) : Prop := C ≤ 16 ∧ R ≤ 16 ∧ (∀ i, i < 20 → W i ≠ 0 → 1 ≤ H i ∧ L i + W i ≤ C ∧ B i + H i ≤ R) ∧ (∀ i j u v, i < 20 → j < 20 → ap_cell L B W H i u v → ap_cell L B W H j u v → i = j)
def ap_F (C R : Nat) (L B W H : Nat → Nat) (u v : Nat) : Prop := u < C ∧ v < R ∧ ∀ i, i < 20 → ¬ ap_cell L B W H i u v
theorem ap_Fbd {C R : Nat} {L B W H : Nat → Nat} (h1 : C ≤ 16) (h2 : R ≤ 16) : ap_bd C R (ap_F C R L B W H) := ⟨h1, h2, fun u v h => ⟨h.1, h.2.1⟩⟩
/-- l: exactly the holes -/
def ap_holes (P : Nat → Prop) (l : List Nat) : Prop := l.Nodup ∧ ∀ n, n ∈ l ↔ P n
theorem ap_isUsed {post : Int32 → Prop} {c0 c1 c2 c3 c4 : Int32} {a1 a2 a3 a4 a5 a6 a7 a8 a9 : Nat → Int32} {L B W H : Nat → Nat} {i : Nat} {p : Int32} (hA : ap_arr L B W H a1 a2 a3 a4) (e : p = nI i) (hi : i < 2 ^ 31) (H1 : i < 20 → W i ≠ 0 → post 1) (H0 : (20 ≤ i ∨ W i = 0) → post 0) : wpX_isUsed post (c0, c1, c2, c3, c4, a1, a2, a3, a4, a5, a6, a7, a8, a9) p := by
  rw [e]
  unfold wpX_isUsed
  refine br_f (nI_pos hi) (pk_le 20 i (fun z => H0 (Or.inl z)) (fun z => ⟨pk_in i 20 z, ?_⟩))
  obtain ⟨_, _, e3, _, _, _, b3, _⟩ := hA i z
  rw [nI_clamp hi, e3]
  exact pk_eq (W i) 0 (fun e => H0 (Or.inr e)) (fun e => H1 z e)
theorem ap_lookN {post : Int32 → Prop} {c0 c1 c2 c3 c4 : Int32} {a1 a2 a3 a4 a5 a6 a7 a8 a9 : Nat → Int32} {L B W H : Nat → Nat} {i : Nat} {p q : Int32} (hA : ap_arr L B W H a1 a2 a3 a4) (e : p = nI i) (hi : i < 2 ^ 31) (h : 20 ≤ i ∨ W i = 0) (hp : post (-1)) : wpX_look post (c0, c1, c2, c3, c4, a1, a2, a3, a4, a5, a6, a7, a8, a9) p q := by
  unfold wpX_look
  exact ap_isUsed hA e hi (fun z1 z2 => absurd h (by omega)) (fun _ => br_t rfl hp)
theorem ap_look0 {post : Int32 → Prop} {c0 c1 c2 c3 c4 : Int32} {a1 a2 a3 a4 a5 a6 a7 a8 a9 : Nat → Int32} {L B W H : Nat → Nat} {i : Nat} {p : Int32} (hA : ap_arr L B W H a1 a2 a3 a4) (e : p = nI i) (hi : i < 20) (h : W i ≠ 0) (hp : post (nI (L i))) : wpX_look post (c0, c1, c2, c3, c4, a1, a2, a3, a4, a5, a6, a7, a8, a9) p 0 := by
  unfold wpX_look
  refine ap_isUsed hA e (by omega) (fun _ _ => br_f (by decide) (br_t rfl ⟨pk_in i 20 hi e, ?_⟩)) (fun z => absurd h (by omega))
  rw [e, nI_clamp (by omega), (hA i hi).1]
  exact hp
theorem ap_look1 {post : Int32 → Prop} {c0 c1 c2 c3 c4 : Int32} {a1 a2 a3 a4 a5 a6 a7 a8 a9 : Nat → Int32} {L B W H : Nat → Nat} {i : Nat} {p : Int32} (hA : ap_arr L B W H a1 a2 a3 a4) (e : p = nI i) (hi : i < 20) (h : W i ≠ 0) (hp : post (nI (B i))) : wpX_look post (c0, c1, c2, c3, c4, a1, a2, a3, a4, a5, a6, a7, a8, a9) p 1 := by
  unfold wpX_look
  refine ap_isUsed hA e (by omega) (fun _ _ => br_f (by decide) (br_f (by decide) (br_t rfl ⟨pk_in i 20 hi e, ?_⟩))) (fun z => absurd h (by omega))
  rw [e, nI_clamp (by omega), (hA i hi).2.1]
  exact hp
theorem ap_look2 {post : Int32 → Prop} {c0 c1 c2 c3 c4 : Int32} {a1 a2 a3 a4 a5 a6 a7 a8 a9 : Nat → Int32} {L B W H : Nat → Nat} {i : Nat} {p : Int32} (hA : ap_arr L B W H a1 a2 a3 a4) (e : p = nI i) (hi : i < 20) (h : W i ≠ 0) (hp : post (nI (W i))) : wpX_look post (c0, c1, c2, c3, c4, a1, a2, a3, a4, a5, a6, a7, a8, a9) p 2 := by
  unfold wpX_look
  refine ap_isUsed hA e (by omega) (fun _ _ => br_f (by decide) (br_f (by decide) (br_f (by decide) (br_t rfl ⟨pk_in i 20 hi e, ?_⟩)))) (fun z => absurd h (by omega))
  rw [e, nI_clamp (by omega), (hA i hi).2.2.1]
  exact hp
theorem ap_look3 {post : Int32 → Prop} {c0 c1 c2 c3 c4 : Int32} {a1 a2 a3 a4 a5 a6 a7 a8 a9 : Nat → Int32} {L B W H : Nat → Nat} {i : Nat} {p : Int32} (hA : ap_arr L B W H a1 a2 a3 a4) (e : p = nI i) (hi : i < 20) (h : W i ≠ 0) (hp : post (nI (H i))) : wpX_look post (c0, c1, c2, c3, c4, a1, a2, a3, a4, a5, a6, a7, a8, a9) p 3 := by
  unfold wpX_look
  refine ap_isUsed hA e (by omega) (fun _ _ => br_f (by decide) (br_f (by decide) (br_f (by decide) (br_f (by decide) (br_t rfl ⟨pk_in i 20 hi e, ?_⟩))))) (fun z => absurd h (by omega))
  rw [e, nI_clamp (by omega), (hA i hi).2.2.2.1]
  exact hp
theorem ap_own28 {post : Int32 → Prop} {c0 c1 c2 c3 c4 : Int32} {a1 a2 a3 a4 a5 a6 a7 a8 a9 : Nat → Int32} {L B W H : Nat → Nat} {i u v : Nat} (hA : ap_arr L B W H a1 a2 a3 a4) (hi : i < 20) (hc : ap_cell L B W H i u v) (hd : ∀ j, j < i → ¬ ap_cell L B W H j u v) (hp : post (nI i)) : ∃ n, wX_owner_28 post (nI u) (nI v) c0 c1 c2 c3 c4 a1 a2 a3 a4 a5 a6 a7 a8 a9 n 0 := by
  have hu : u < 64 := by
    obtain ⟨_, _, _, _, b1, b2, b3, b4⟩ := hA i hi
    have g := hc.2.1
    omega
  have hv : v < 64 := by
    obtain ⟨_, _, _, _, b1, b2, b3, b4⟩ := hA i hi
    have g := hc.2.2.2
    omega
  refine pk_loop (σ := Unit) (fun n k _ => wX_owner_28 post (nI u) (nI v) c0 c1 c2 c3 c4 a1 a2 a3 a4 a5 a6 a7 a8 a9 n (nI k)) (fun _ _ => True) i 0 () (by omega) trivial ?_ ?_
  · intro n _ _
    obtain ⟨e1, e2, e3, e4, b1, b2, b3, b4⟩ := hA i hi
    obtain ⟨k1, k2, k3, k4⟩ := hc
    refine pk_le 20 i (fun z => absurd z (by omega)) (fun _ => ⟨pk_in i 20 hi, ?_⟩)
    rw [nI_clamp (by omega), e1, e2, e3, e4]
    refine pk_eq (W i) 0 (fun z => absurd z (by omega)) (fun _ => ⟨pk_in i 20 hi, ?_⟩)
    refine pk_lt u (L i) (fun z => absurd z (by omega)) (fun _ => ⟨pk_in i 20 hi, ?_⟩)
    refine pk_le (B i) v (fun _ => ⟨pk_in i 20 hi, pk_in i 20 hi, ?_⟩) (fun z => absurd z (by omega))
    refine pk_le (L i + W i) u (fun z => absurd z (by omega)) (fun _ => ⟨pk_in i 20 hi, pk_in i 20 hi, ?_⟩) (nI_add _ _)
    exact pk_le (B i + H i) v (fun z => absurd z (by omega)) (fun _ => hp) (nI_add _ _)
  · intro n j _ hj _ hw
    have hj20 : j < 20 := by omega
    obtain ⟨e1, e2, e3, e4, b1, b2, b3, b4⟩ := hA j hj20
    have hn := hd j hj
    have ng := hw () trivial
    refine pk_le 20 j (fun z => absurd z (by omega)) (fun _ => ⟨pk_in j 20 hj20, ?_⟩)
    rw [nI_clamp (by omega), e1, e2, e3, e4]
    refine pk_eq (W j) 0 (fun z => nm_r (nI_1 j) ng) (fun _ => ⟨pk_in j 20 hj20, ?_⟩)
    refine pk_lt u (L j) (fun z => nm_r (nI_1 j) ng) (fun q1 => ⟨pk_in j 20 hj20, ?_⟩)
    refine pk_le (B j) v (fun q2 => ⟨pk_in j 20 hj20, pk_in j 20 hj20, ?_⟩) (fun z => nm_r (nI_1 j) ng)
    refine pk_le (L j + W j) u (fun z => nm_r (nI_1 j) ng) (fun q3 => ⟨pk_in j 20 hj20, pk_in j 20 hj20, ?_⟩) (nI_add _ _)
    exact pk_le (B j + H j) v (fun z => nm_r (nI_1 j) ng) (fun q4 => absurd ⟨q1, q3, q2, q4⟩ hn) (nI_add _ _)
theorem ap_owner {post : Int32 → Prop} {C R : Nat} {c2 c3 c4 : Int32} {a1 a2 a3 a4 a5 a6 a7 a8 a9 : Nat → Int32} {L B W H : Nat → Nat} {i u v : Nat} (hA : ap_arr L B W H a1 a2 a3 a4) (hG : ap_geo C R L B W H) (hi : i < 20) (hc : ap_cell L B W H i u v) (hp : post (nI i)) : wpX_owner post (nI C, nI R, c2, c3, c4, a1, a2, a3, a4, a5, a6, a7, a8, a9) (nI u) (nI v) := by
  obtain ⟨g1, g2, g3, g4⟩ := hG
  have hW : W i ≠ 0 := by
    obtain ⟨k1, k2, k3, k4⟩ := hc
    omega
  obtain ⟨q1, q2, q3⟩ := g3 i hi hW
  have hc' := hc
  obtain ⟨k1, k2, k3, k4⟩ := hc'
  unfold wpX_owner
  refine br_f (nI_pos (by omega)) (pk_le C u (fun z => absurd z (by omega)) (fun _ => br_f (nI_pos (by omega)) (pk_lt v R (fun _ => ?_) (fun z => absurd z (by omega)))))
  exact ap_own28 hA hi hc (fun j hj hcj => absurd (g4 j i u v (by omega) hi hcj hc) (by omega)) hp
theorem ap_whole {post : Int32 → Prop} {C R : Nat} {c2 c3 c4 : Int32} {a1 a2 a3 a4 a5 a6 a7 a8 a9 : Nat → Int32} {L B W H : Nat → Nat} {i : Nat} (hA : ap_arr L B W H a1 a2 a3 a4) (hG : ap_geo C R L B W H) (hi : i < 20) (hW : W i ≠ 0) (hp : post 1) : wpL_whole post (nI C, nI R, c2, c3, c4, a1, a2, a3, a4, a5, a6, a7, a8, a9) (nI i) := by
  unfold wpL_whole
  refine ap_look0 hA rfl hi hW (ap_look1 hA rfl hi hW (ap_look2 hA rfl hi hW (ap_look3 hA rfl hi hW ?_)))
  obtain ⟨_, _, _, _, b1, b2, b3, b4⟩ := hA i hi
  refine pk_loop (σ := Unit) (fun n k _ => wL_whole_33 post (nI i) (nI (L i)) (nI (B i)) (nI (W i)) (nI (H i)) (nI C) (nI R) c2 c3 c4 a1 a2 a3 a4 a5 a6 a7 a8 a9 n (nI k)) (fun _ _ => True) (H i) 0 () (by omega) trivial ?_ ?_
  · exact fun n _ _ => pk_le (H i) (H i) (fun _ => hp) (fun z => absurd z (by omega))
  · intro n j _ hj _ hw
    refine pk_le (H i) j (fun z => absurd z (by omega)) (fun _ => ?_)
    refine pk_loop (σ := Unit) (fun n' k _ => wL_whole_43 post (wL_whole_33 post (nI i) (nI (L i)) (nI (B i)) (nI (W i)) (nI (H i)) (nI C) (nI R) c2 c3 c4 a1 a2 a3 a4 a5 a6 a7 a8 a9 n) (nI i) (nI (L i)) (nI (B i)) (nI (W i)) (nI (H i)) (nI j) (nI C) (nI R) c2 c3 c4 a1 a2 a3 a4 a5 a6 a7 a8 a9 n' (nI k)) (fun _ _ => True) (W i) 0 () (by omega) trivial ?_ ?_
    · exact fun n' _ _ => pk_le (W i) (W i) (fun _ => nm_r (nI_1 j) (hw () trivial)) (fun z => absurd z (by omega))
    · intro n' k _ hk _ hw'
      refine pk_le (W i) k (fun z => absurd z (by omega)) (fun _ => ?_)
      rw [nI_add, nI_add]
      exact ap_owner hA hG hi ⟨by omega, by omega, by omega, by omega⟩ (br_t rfl (nm_r (nI_1 k) (hw' () trivial)))
/-! sums -/
def ap_sum (f : Nat → Nat) : Nat → Nat
  | 0 => 0
  | k + 1 => ap_sum f k + f k
theorem ap_sb (a b c : Int32) : a - b - c = a - (b + c) := by grind
theorem ap_s0 (a : Int32) : a = a - nI 0 := by
  rw [nI_0]
  grind
theorem ap_freeCells {post : Int32 → Prop} {C R : Nat} {c2 c3 c4 : Int32} {a1 a2 a3 a4 a5 a6 a7 a8 a9 : Nat → Int32} {L B W H : Nat → Nat} (hA : ap_arr L B W H a1 a2 a3 a4) (hp : post (nI (C * R) - nI (ap_sum (fun i => W i * H i) 20))) : wpX_freeCells post (nI C, nI R, c2, c3, c4, a1, a2, a3, a4, a5, a6, a7, a8, a9) := by
  unfold wpX_freeCells
  refine nm_r (e' := nI (C * R) - nI (ap_sum (fun i => W i * H i) 0)) (by rw [pk_mul]; exact ap_s0 _) ?_
  refine pk_loop (fun n k (s : Int32) => wX_freeCells_12 post (nI C) (nI R) c2 c3 c4 a1 a2 a3 a4 a5 a6 a7 a8 a9 n s (nI k)) (fun k s => s = nI (C * R) - nI (ap_sum (fun i => W i * H i) k)) 20 0 _ (by omega) rfl ?_ ?_
  · intro n s hs
    rw [hs]
    exact pk_le 20 20 (fun _ => hp) (fun z => absurd z (by omega))
  · intro n k s hk hs hw
    obtain ⟨e1, e2, e3, e4, b1, b2, b3, b4⟩ := hA k hk
    refine pk_le 20 k (fun z => absurd z (by omega)) (fun _ => ⟨pk_in k 20 hk, ?_⟩)
    rw [nI_clamp (by omega), e3, e4]
    refine pk_eq (W k) 0 (fun z => nm_r (nI_1 k) (hw s ?_)) (fun z => ⟨pk_in k 20 hk, pk_in k 20 hk, nm_e (nm_r (nI_1 k) (hw _ ?_))⟩)
    · rw [hs]
      show _ = nI (C * R) - nI (ap_sum (fun i => W i * H i) k + W k * H k)
      rw [z, Nat.zero_mul, Nat.add_zero]
    · rw [hs, pk_mul, ap_sb, nI_add]
      rfl
def ap_mxf (f : Nat → Nat) : Nat → Nat
  | 0 => 0
  | k + 1 => max (ap_mxf f k) (f k)
theorem ap_mxl {f : Nat → Nat} {M : Nat} : ∀ k, (∀ j, j < k → f j ≤ M) → ap_mxf f k ≤ M := by
  intro k
  induction k with
  | zero => exact fun _ => Nat.zero_le _
  | succ k ih => exact fun h => Nat.max_le.mpr ⟨ih (fun j hj => h j (by omega)), h k (by omega)⟩
theorem ap_mxg {f : Nat → Nat} {j : Nat} : ∀ k, j < k → f j ≤ ap_mxf f k := by
  intro k
  induction k with
  | zero => exact fun h => absurd h (Nat.not_lt_zero j)
  | succ k ih =>
    intro h
    by_cases e : j = k
    · rw [e]
      exact Nat.le_max_right _ _
    · exact Nat.le_trans (ih (by omega)) (Nat.le_max_left _ _)
theorem ap_mxe {l l' : List Nat} (φ : Nat → Nat) (h : ∀ n, n ∈ l → n ∈ l') : ap_mxf (fun k => φ (l.getD k 0)) l.length ≤ ap_mxf (fun k => φ (l'.getD k 0)) l'.length := by
  refine ap_mxl _ (fun j hj => ?_)
  obtain ⟨k, hk, e⟩ := ap_mg (h _ (ap_gm hj))
  show φ (l.getD j 0) ≤ _
  rw [← e]
  exact ap_mxg (f := fun k => φ (l'.getD k 0)) _ hk
theorem ap_mxE {l l' : List Nat} (φ : Nat → Nat) (h : ∀ n, n ∈ l ↔ n ∈ l') : ap_mxf (fun k => φ (l.getD k 0)) l.length = ap_mxf (fun k => φ (l'.getD k 0)) l'.length :=
  Nat.le_antisymm (ap_mxe φ (fun n => (h n).mp)) (ap_mxe φ (fun n => (h n).mpr))
def ap_lg (l : List Nat) : Nat := ap_mxf (fun k => (fun n => ap_w n * ap_h n) (l.getD k 0)) l.length
def ap_ft (l : List Nat) (wd : Nat) : Nat := ap_mxf (fun k => (fun n => if wd ≤ ap_w n then ap_h n else 0) (l.getD k 0)) l.length
def ap_fit (l : List Nat) : Nat → Nat
  | 0 => 0
  | 1 => 0
  | k + 2 => ap_fit l (k + 1) + ap_ft l (k + 1)
theorem ap_lgE {l l' : List Nat} (h : ∀ n, n ∈ l ↔ n ∈ l') : ap_lg l = ap_lg l' := ap_mxE (fun n => ap_w n * ap_h n) h
theorem ap_fitE {l l' : List Nat} (h : ∀ n, n ∈ l ↔ n ∈ l') : ∀ k, ap_fit l k = ap_fit l' k
  | 0 => rfl
  | 1 => rfl
  | k + 2 => by
    show ap_fit l (k + 1) + ap_ft l (k + 1) = ap_fit l' (k + 1) + ap_ft l' (k + 1)
    rw [ap_fitE h (k + 1), show ap_ft l (k + 1) = ap_ft l' (k + 1) from ap_mxE (fun n => if k + 1 ≤ ap_w n then ap_h n else 0) h]
theorem ap_largest {post : Int32 → Prop} {c0 c1 c2 c4 : Int32} {a1 a2 a3 a4 a5 a6 a7 a8 a9 : Nat → Int32} {l : List Nat} (hl : l.length ≤ 256) (hr : ap_rep l a6) (hb : ∀ n, n ∈ l → n < 1048576) (hp : post (nI (ap_lg l))) : wpX_largestHole post (c0, c1, c2, nI l.length, c4, a1, a2, a3, a4, a5, a6, a7, a8, a9) := by
  unfold wpX_largestHole
  refine pk_loop (fun n k (s : Int32) => wX_largestHole_4 post c0 c1 c2 (nI l.length) c4 a1 a2 a3 a4 a5 a6 a7 a8 a9 n s (nI k)) (fun k s => s = nI (ap_mxf (fun k => (fun n => ap_w n * ap_h n) (l.getD k 0)) k)) l.length 0 0 (by omega) rfl ?_ ?_
  · intro n s hs
    rw [hs]
    exact pk_le l.length l.length (fun _ => hp) (fun z => absurd z (by omega))
  · intro n k s hk hs hw
    have hn := hb _ (ap_gm hk)
    have ea : a6 (nI k).toNatClampNeg = nI (l.getD k 0) := by
      rw [nI_clamp (by omega)]
      exact hr k hk
    have lim : ∀ j, j < 256 → (fun k => (fun n => ap_w n * ap_h n) (l.getD k 0)) j ≤ 1024 := by
      intro j _
      have b := ap_b32 (l.getD j 0)
      show ap_w (l.getD j 0) * ap_h (l.getD j 0) ≤ 32 * 32
      exact Nat.mul_le_mul (by omega) (by omega)
    have l1 := ap_mxl k (fun j hj => lim j (by omega))
    have l2 : ap_w (l.getD k 0) * ap_h (l.getD k 0) ≤ 1024 := lim k (by omega)
    refine pk_le l.length k (fun z => absurd z (by omega)) (fun _ => ⟨pk_in k 256 (by omega), ap_wideOf ea hn ⟨pk_in k 256 (by omega), ap_highOf ea hn (nm_r (pk_mul _ _) ?_)⟩⟩)
    refine pk_le (ap_w (l.getD k 0) * ap_h (l.getD k 0)) _ (fun z => nm_r (nI_1 k) (hw s ?_)) (fun z => nm_r (nI_1 k) (hw _ ?_)) rfl hs
    · rw [hs]
      show _ = nI (max _ (ap_w (l.getD k 0) * ap_h (l.getD k 0)))
      rw [Nat.max_eq_left z]
    · show _ = nI (max _ (ap_w (l.getD k 0) * ap_h (l.getD k 0)))
      rw [Nat.max_eq_right (Nat.le_of_lt z)]
theorem ap_fit15 {post : Int32 → Prop} {J : Int32 → Int32 → Prop} {c0 c1 c2 c4 : Int32} {a1 a2 a3 a4 a5 a6 a7 a8 a9 : Nat → Int32} {l : List Nat} {x1 : Int32} {wd : Nat} (hwd : wd ≤ 16) (hl : l.length ≤ 256) (hr : ap_rep l a6) (hb : ∀ n, n ∈ l → n < 1048576) (hp : J (x1 + nI (ap_ft l wd)) (nI (wd + 1))) : ∃ n, wX_fitting_15 post J x1 (nI wd) c0 c1 c2 (nI l.length) c4 a1 a2 a3 a4 a5 a6 a7 a8 a9 n 0 0 := by
  refine pk_loop (fun n k (s : Int32) => wX_fitting_15 post J x1 (nI wd) c0 c1 c2 (nI l.length) c4 a1 a2 a3 a4 a5 a6 a7 a8 a9 n s (nI k)) (fun k s => s = nI (ap_mxf (fun k => (fun n => if wd ≤ ap_w n then ap_h n else 0) (l.getD k 0)) k)) l.length 0 0 (by omega) rfl ?_ ?_
  · intro n s hs
    rw [hs]
    exact pk_le l.length l.length (fun _ => nm_e (nm_r (nI_1 wd) hp)) (fun z => absurd z (by omega))
  · intro n k s hk hs hw
    have hn := hb _ (ap_gm hk)
    have ea : a6 (nI k).toNatClampNeg = nI (l.getD k 0) := by
      rw [nI_clamp (by omega)]
      exact hr k hk
    have bk := ap_b32 (l.getD k 0)
    have l1 := ap_mxl (f := (fun k => (fun n => if wd ≤ ap_w n then ap_h n else 0) (l.getD k 0))) (M := 32) k (fun j hj => by
      have b := ap_b32 (l.getD j 0)
      show (if wd ≤ ap_w (l.getD j 0) then ap_h (l.getD j 0) else 0) ≤ 32
      split <;> omega)
    refine pk_le l.length k (fun z => absurd z (by omega)) (fun _ => ⟨pk_in k 256 (by omega), ap_wideOf ea hn ?_⟩)
    refine pk_lt (ap_w (l.getD k 0)) wd (fun z => nm_r (nI_1 k) (hw s ?_)) (fun z => ⟨pk_in k 256 (by omega), ap_highOf ea hn ?_⟩)
    · rw [hs]
      show _ = nI (max _ (if wd ≤ ap_w (l.getD k 0) then ap_h (l.getD k 0) else 0))
      rw [if_neg (by omega), Nat.max_eq_left (Nat.zero_le _)]
    · refine pk_le (ap_h (l.getD k 0)) _ (fun q => nm_r (nI_1 k) (hw s ?_)) (fun q => ⟨pk_in k 256 (by omega), ap_highOf ea hn (nm_r (nI_1 k) (hw _ ?_))⟩) rfl hs
      · rw [hs]
        show _ = nI (max _ (if wd ≤ ap_w (l.getD k 0) then ap_h (l.getD k 0) else 0))
        rw [if_pos z, Nat.max_eq_left q]
      · show _ = nI (max _ (if wd ≤ ap_w (l.getD k 0) then ap_h (l.getD k 0) else 0))
        rw [if_pos z, Nat.max_eq_right (Nat.le_of_lt q)]
theorem ap_fitting {post : Int32 → Prop} {c0 c1 c2 c4 : Int32} {a1 a2 a3 a4 a5 a6 a7 a8 a9 : Nat → Int32} {l : List Nat} (hl : l.length ≤ 256) (hr : ap_rep l a6) (hb : ∀ n, n ∈ l → n < 1048576) (hp : post (nI (ap_fit l 17))) : wpX_fitting post (c0, c1, c2, nI l.length, c4, a1, a2, a3, a4, a5, a6, a7, a8, a9) := by
  unfold wpX_fitting
  refine pk_loop (fun n k (s : Int32) => wX_fitting_4 post c0 c1 c2 (nI l.length) c4 a1 a2 a3 a4 a5 a6 a7 a8 a9 n s (nI k)) (fun k s => 1 ≤ k ∧ s = nI (ap_fit l k)) 17 1 0 (by omega) ⟨Nat.le_refl 1, rfl⟩ ?_ ?_
  · intro n s hs
    rw [hs.2]
    exact pk_lt 16 17 (fun _ => hp) (fun z => absurd z (by omega))
  · intro n k s hk hs hw
    obtain ⟨h1, hs⟩ := hs
    refine pk_lt 16 k (fun z => absurd z (by omega)) (fun _ => ap_fit15 (by omega) hl hr hb (hw _ ⟨by omega, ?_⟩))
    rw [hs, nI_add]
    obtain ⟨j, rfl⟩ : ∃ j, k = j + 1 := ⟨k - 1, by omega⟩
    rfl
theorem ap_at {y x : Nat} : (256 : Int32) * nI y + nI x = nI (256 * y + x) := by
  rw [← nI_add, ← pk_mul]
  rfl
theorem ap_lowest {post : Int32 → Prop} {c0 c1 c2 c4 : Int32} {a1 a2 a3 a4 a5 a6 a7 a8 a9 : Nat → Int32} {l : List Nat} {w h : Nat} (hw : w ≤ 16) (hh : h ≤ 16) (hl : l.length ≤ 256) (hr : ap_rep l a6) (hb : ∀ n, n ∈ l → n < 1048576) (H0 : post (-3)) (H1 : ∀ n, n ∈ l → w ≤ ap_w n → h ≤ ap_h n → post (nI (256 * ap_y n + ap_x n))) : wpX_lowest post (c0, c1, c2, nI l.length, c4, a1, a2, a3, a4, a5, a6, a7, a8, a9) (nI w) (nI h) := by
  unfold wpX_lowest
  refine pk_loop (fun n k (s : Int32) => wX_lowest_6 post (nI w) (nI h) c0 c1 c2 (nI l.length) c4 a1 a2 a3 a4 a5 a6 a7 a8 a9 n s (nI k)) (fun _ s => post s) l.length 0 (-3) (by omega) H0 ?_ ?_
  · intro n s hs
    exact pk_le l.length l.length (fun _ => hs) (fun z => absurd z (by omega))
  · intro n k s hk hs hw'
    have hm := ap_gm hk
    have hn := hb _ hm
    have bk := ap_b32 (l.getD k 0)
    refine pk_le l.length k (fun z => absurd z (by omega)) (fun _ => ⟨pk_in k 256 (by omega), nm_r (e' := nI (l.getD k 0)) (by rw [nI_clamp (by omega)]; exact hr k hk) (ap_wideOf rfl hn ?_)⟩)
    refine pk_lt (ap_w (l.getD k 0)) w (fun _ => nm_r (nI_1 k) (hw' s hs)) (fun z1 => ap_highOf rfl hn ?_)
    refine pk_le h (ap_h (l.getD k 0)) (fun z2 => ap_bottomOf rfl hn (ap_leftOf rfl hn (nm_r ap_at ?_))) (fun _ => nm_r (nI_1 k) (hw' s hs))
    have t := H1 _ hm z1 z2
    exact br_c (fun _ => nm_r (nI_1 k) (hw' _ t)) (fun _ => br_c (fun _ => nm_r (nI_1 k) (hw' s hs)) (fun _ => nm_r (nI_1 k) (hw' _ t)))
end
section
/-! splitting, walked -/
theorem ap_isCov {post : Int32 → Prop} {c0 c1 c2 c3 : Int32} {a1 a2 a3 a4 a5 a6 a7 a8 a9 : Nat → Int32} {cs : List Nat} {k : Nat} (hl : cs.length ≤ 1024) (hr : ap_rep cs a7) (hb : ∀ c, c ∈ cs → c < 1048576) (hk : k < cs.length) (H1 : ap_cv cs k → post 1) (H0 : ¬ ap_cv cs k → post 0) : wpX_isCovered post (c0, c1, c2, c3, nI cs.length, a1, a2, a3, a4, a5, a6, a7, a8, a9) (nI k) := by
  unfold wpX_isCovered
  refine ⟨pk_in k 1024 (by omega), nm_r (e' := nI (cs.getD k 0)) (by rw [nI_clamp (by omega)]; exact hr k hk) ?_⟩
  have hck := hb _ (ap_gm hk)
  refine pk_loop (σ := Unit) (fun n j _ => wX_isCovered_9 post (nI k) (nI (cs.getD k 0)) c0 c1 c2 c3 (nI cs.length) a1 a2 a3 a4 a5 a6 a7 a8 a9 n (nI j)) (fun j _ => ∀ i, i < j → ¬ (i ≠ k ∧ ap_ins (cs.getD k 0) (cs.getD i 0) ∧ (cs.getD i 0 ≠ cs.getD k 0 ∨ i < k))) cs.length 0 () (by omega) (fun i hi => absurd hi (Nat.not_lt_zero i)) ?_ ?_
  · intro n _ h
    exact pk_le cs.length cs.length (fun _ => H0 (fun ⟨j, j1, j2⟩ => h j j1 j2)) (fun z => absurd z (by omega))
  · intro n j _ hj h hw
    have hcj := hb _ (ap_gm hj)
    have ea : a7 (nI j).toNatClampNeg = nI (cs.getD j 0) := by
      rw [nI_clamp (by omega)]
      exact hr j hj
    have nx : ¬ (j ≠ k ∧ ap_ins (cs.getD k 0) (cs.getD j 0) ∧ (cs.getD j 0 ≠ cs.getD k 0 ∨ j < k)) → wX_isCovered_9 post (nI k) (nI (cs.getD k 0)) c0 c1 c2 c3 (nI cs.length) a1 a2 a3 a4 a5 a6 a7 a8 a9 n (nI (j + 1)) := fun z => hw () (lt_s h z)
    refine pk_le cs.length j (fun z => absurd z (by omega)) (fun _ => pk_eq j k (fun z => nm_r (nI_1 j) (nx (fun t => t.1 z))) (fun z => ⟨pk_in j 1024 (by omega), ap_inside rfl ea hck hcj (fun hin => br_f (by decide) ⟨pk_in j 1024 (by omega), ?_⟩) (fun hin => br_t rfl (nm_r (nI_1 j) (nx (fun t => hin t.2.1))))⟩))
    refine pk_eq (cs.getD j 0) (cs.getD k 0) (fun q => pk_le k j (fun q2 => nm_r (nI_1 j) (nx (fun t => ?_))) (fun q2 => H1 ⟨j, hj, z, hin, Or.inr q2⟩)) (fun q => H1 ⟨j, hj, z, hin, Or.inl q⟩) ea rfl
    rcases t.2.2 with t | t
    · exact t q
    · omega
theorem ap_keepC {post : St2 → Prop} {c0 c1 c2 c3 : Int32} {a1 a2 a3 a4 a5 a6 a7 a8 a9 : Nat → Int32} {cs : List Nat} {p : Int32} {n : Nat} (e : p = nI n) (hl : cs.length < 1024) (hr : ap_rep cs a7) (H : ∀ a, ap_rep (cs ++ [n]) a → post (c0, c1, c2, c3, nI (cs ++ [n]).length, a1, a2, a3, a4, a5, a6, a, a8, a9)) : wpX_keepCandidate post (c0, c1, c2, c3, nI cs.length, a1, a2, a3, a4, a5, a6, a7, a8, a9) p := by
  unfold wpX_keepCandidate
  have t := H _ (ap_repS hr)
  rw [ap_len] at t
  refine ⟨pk_in _ 1024 hl, nm_r (e' := upd a7 cs.length (nI n)) (by rw [nI_clamp (by omega), e]) (nm_r (nI_1 _) t)⟩
theorem ap_offer {post : St2 → Prop} {c0 c1 c2 c3 : Int32} {a1 a2 a3 a4 a5 a6 a7 a8 a9 : Nat → Int32} {cs : List Nat} {p0 p1 p2 p3 : Int32} (x y w h : Nat) (e0 : p0 = nI x) (e1 : p1 = nI y) (e2 : p2 = nI w) (e3 : p3 = nI h) (hx : x < 32) (hy : y < 32) (hw : w < 32) (hh : h < 32) (hl : cs.length < 1024) (hr : ap_rep cs a7) (H : ∀ a, ap_rep (cs ++ [ap_pk x y w h]) a → post (c0, c1, c2, c3, nI (cs ++ [ap_pk x y w h]).length, a1, a2, a3, a4, a5, a6, a, a8, a9)) : wpX_offer post (c0, c1, c2, c3, nI cs.length, a1, a2, a3, a4, a5, a6, a7, a8, a9) p0 p1 p2 p3 := by
  unfold wpX_offer
  exact ap_pack x y w h e0 e1 e2 e3 hx hy hw hh (ap_keepC rfl hl hr (fun a ha => H a ha))
theorem ap_n0 {a b : Nat} (h : a ≤ b) (hb : b < 2 ^ 30) : nI a - nI b ≤ 0 := by
  rw [Int32.le_iff_toInt_le, pk_sub_toInt (by omega) hb]
  show (a : Int) - (b : Int) ≤ 0
  omega
theorem ap_p0 {a b : Nat} (h : b < a) (ha : a < 2 ^ 30) : ¬ nI a - nI b ≤ 0 := by
  rw [pk_sub (by omega)]
  exact nI_nle (by omega) (by omega)
theorem ap_l1 {c : Prop} [Decidable c] {x : Nat} : (if c then [x] else []).length ≤ 1 := by
  by_cases h : c
  · rw [if_pos h]
    exact Nat.le_refl 1
  · rw [if_neg h]
    exact Nat.zero_le 1
theorem ap_so4 {post : St2 → Prop} {c0 c1 c2 c3 : Int32} {a1 a2 a3 a4 a5 a6 a7 a8 a9 : Nat → Int32} {cs : List Nat} {h t : Nat} (b1 : ap_x h + ap_w h ≤ 16) (b2 : ap_y h + ap_h h ≤ 16) (b3 : ap_x t + ap_w t ≤ 16) (b4 : ap_y t + ap_h t ≤ 16) (hl : cs.length + 1 ≤ 1024) (hr : ap_rep cs a7)
    (H : ∀ a, ap_rep (cs ++ ap_s4 h t) a → post (c0, c1, c2, c3, nI (cs ++ ap_s4 h t).length, a1, a2, a3, a4, a5, a6, a, a8, a9)) :
    wX_splitOne_137 post (nI (ap_x h)) (nI (ap_y h)) (nI (ap_w h)) (nI (ap_h h)) (nI (ap_y h + ap_h h) - nI (ap_y t + ap_h t)) c0 c1 c2 c3 (nI cs.length) a1 a2 a3 a4 a5 a6 a7 a8 a9 := by
  unfold wX_splitOne_137
  rcases Nat.lt_or_ge (ap_y t + ap_h t) (ap_y h + ap_h h) with z | z
  · refine br_f (ap_p0 z (by omega)) (ap_offer (ap_x h) (ap_y t + ap_h t) (ap_w h) (ap_y h + ap_h h - (ap_y t + ap_h t)) rfl ?_ rfl ?_ (by omega) (by omega) (by omega) (by omega) (by omega) hr (fun a ha => ?_))
    · rw [nI_add, pk_sub (by omega), pk_sub (by omega)]
      congr 1
      omega
    · exact pk_sub (by omega)
    · have e : ap_s4 h t = [ap_pk (ap_x h) (ap_y t + ap_h t) (ap_w h) (ap_y h + ap_h h - (ap_y t + ap_h t))] := if_pos z
      rw [e] at H
      exact H a ha
  · refine br_t (ap_n0 z (by omega)) ?_
    have e : ap_s4 h t = [] := if_neg (by omega)
    rw [e, List.append_nil] at H
    exact H a7 hr
theorem ap_so3 {post : St2 → Prop} {c0 c1 c2 c3 : Int32} {a1 a2 a3 a4 a5 a6 a7 a8 a9 : Nat → Int32} {cs : List Nat} {h t : Nat} (b1 : ap_x h + ap_w h ≤ 16) (b2 : ap_y h + ap_h h ≤ 16) (b3 : ap_x t + ap_w t ≤ 16) (b4 : ap_y t + ap_h t ≤ 16) (hl : cs.length + 2 ≤ 1024) (hr : ap_rep cs a7)
    (H : ∀ a, ap_rep (cs ++ ap_s3 h t ++ ap_s4 h t) a → post (c0, c1, c2, c3, nI (cs ++ ap_s3 h t ++ ap_s4 h t).length, a1, a2, a3, a4, a5, a6, a, a8, a9)) :
    wX_splitOne_121 post (nI (ap_x h)) (nI (ap_y h)) (nI (ap_w h)) (nI (ap_h h)) (nI (ap_y t) - nI (ap_y h)) (nI (ap_y h + ap_h h) - nI (ap_y t + ap_h t)) c0 c1 c2 c3 (nI cs.length) a1 a2 a3 a4 a5 a6 a7 a8 a9 := by
  unfold wX_splitOne_121
  rcases Nat.lt_or_ge (ap_y h) (ap_y t) with z | z
  · refine br_f (ap_p0 z (by omega)) (ap_offer (ap_x h) (ap_y h) (ap_w h) (ap_y t - ap_y h) rfl rfl rfl ?_ (by omega) (by omega) (by omega) (by omega) (by omega) hr (fun a ha => ?_))
    · exact pk_sub (by omega)
    · have e : ap_s3 h t = [ap_pk (ap_x h) (ap_y h) (ap_w h) (ap_y t - ap_y h)] := if_pos z
      rw [e] at H
      exact ap_so4 b1 b2 b3 b4 (by rw [ap_len]; omega) ha H
  · refine br_t (ap_n0 z (by omega)) ?_
    have e : ap_s3 h t = [] := if_neg (by omega)
    rw [e, List.append_nil] at H
    exact ap_so4 b1 b2 b3 b4 (by omega) hr H
theorem ap_so2 {post : St2 → Prop} {c0 c1 c2 c3 : Int32} {a1 a2 a3 a4 a5 a6 a7 a8 a9 : Nat → Int32} {cs : List Nat} {h t : Nat} (b1 : ap_x h + ap_w h ≤ 16) (b2 : ap_y h + ap_h h ≤ 16) (b3 : ap_x t + ap_w t ≤ 16) (b4 : ap_y t + ap_h t ≤ 16) (hl : cs.length + 3 ≤ 1024) (hr : ap_rep cs a7)
    (H : ∀ a, ap_rep (cs ++ ap_s2 h t ++ ap_s3 h t ++ ap_s4 h t) a → post (c0, c1, c2, c3, nI (cs ++ ap_s2 h t ++ ap_s3 h t ++ ap_s4 h t).length, a1, a2, a3, a4, a5, a6, a, a8, a9)) :
    wX_splitOne_99 post (nI (ap_x h)) (nI (ap_y h)) (nI (ap_w h)) (nI (ap_h h)) (nI (ap_x h + ap_w h) - nI (ap_x t + ap_w t)) (nI (ap_y t) - nI (ap_y h)) (nI (ap_y h + ap_h h) - nI (ap_y t + ap_h t)) c0 c1 c2 c3 (nI cs.length) a1 a2 a3 a4 a5 a6 a7 a8 a9 := by
  unfold wX_splitOne_99
  rcases Nat.lt_or_ge (ap_x t + ap_w t) (ap_x h + ap_w h) with z | z
  · refine br_f (ap_p0 z (by omega)) (ap_offer (ap_x t + ap_w t) (ap_y h) (ap_x h + ap_w h - (ap_x t + ap_w t)) (ap_h h) ?_ rfl ?_ rfl (by omega) (by omega) (by omega) (by omega) (by omega) hr (fun a ha => ?_))
    · rw [nI_add, pk_sub (by omega), pk_sub (by omega)]
      congr 1
      omega
    · exact pk_sub (by omega)
    · have e : ap_s2 h t = [ap_pk (ap_x t + ap_w t) (ap_y h) (ap_x h + ap_w h - (ap_x t + ap_w t)) (ap_h h)] := if_pos z
      rw [e] at H
      exact ap_so3 b1 b2 b3 b4 (by rw [ap_len]; omega) ha H
  · refine br_t (ap_n0 z (by omega)) ?_
    have e : ap_s2 h t = [] := if_neg (by omega)
    rw [e, List.append_nil] at H
    exact ap_so3 b1 b2 b3 b4 (by omega) hr H
theorem ap_splitOne {post : St2 → Prop} {c0 c1 c2 c3 : Int32} {a1 a2 a3 a4 a5 a6 a7 a8 a9 : Nat → Int32} {cs : List Nat} {p q : Int32} {h t : Nat} (e1 : p = nI h) (e2 : q = nI t) (hh : h < 1048576) (ht : t < 1048576) (b1 : ap_x h + ap_w h ≤ 16) (b2 : ap_y h + ap_h h ≤ 16) (b3 : ap_x t + ap_w t ≤ 16) (b4 : ap_y t + ap_h t ≤ 16) (hl : cs.length + 4 ≤ 1024) (hr : ap_rep cs a7)
    (H : ∀ a, ap_rep (cs ++ ap_s1 h t ++ ap_s2 h t ++ ap_s3 h t ++ ap_s4 h t) a → post (c0, c1, c2, c3, nI (cs ++ ap_s1 h t ++ ap_s2 h t ++ ap_s3 h t ++ ap_s4 h t).length, a1, a2, a3, a4, a5, a6, a, a8, a9)) :
    wpX_splitOne post (c0, c1, c2, c3, nI cs.length, a1, a2, a3, a4, a5, a6, a7, a8, a9) p q := by
  unfold wpX_splitOne
  refine ap_leftOf e1 hh (ap_bottomOf e1 hh (ap_wideOf e1 hh (ap_highOf e1 hh (ap_leftOf e2 ht (nm_e ?_)))))
  refine ap_leftOf e2 ht (ap_wideOf e2 ht (nm_r (e' := nI (ap_x h + ap_w h) - nI (ap_x t + ap_w t)) (by rw [nI_add, ap_sb, nI_add]) ?_))
  refine ap_bottomOf e2 ht (nm_e ?_)
  refine ap_bottomOf e2 ht (ap_highOf e2 ht (nm_r (e' := nI (ap_y h + ap_h h) - nI (ap_y t + ap_h t)) (by rw [nI_add, ap_sb, nI_add]) ?_))
  rcases Nat.lt_or_ge (ap_x h) (ap_x t) with z | z
  · refine br_f (ap_p0 z (by omega)) (ap_offer (ap_x h) (ap_y h) (ap_x t - ap_x h) (ap_h h) rfl rfl ?_ rfl (by omega) (by omega) (by omega) (by omega) (by omega) hr (fun a ha => ?_))
    · exact pk_sub (by omega)
    · have e : ap_s1 h t = [ap_pk (ap_x h) (ap_y h) (ap_x t - ap_x h) (ap_h h)] := if_pos z
      rw [e] at H
      exact ap_so2 b1 b2 b3 b4 (by rw [ap_len]; omega) ha H
  · refine br_t (ap_n0 z (by omega)) ?_
    have e : ap_s1 h t = [] := if_neg (by omega)
    rw [e, List.append_nil] at H
    exact ap_so2 b1 b2 b3 b4 (by omega) hr H
theorem ap_sh95 {post : St2 → Prop} {c0 c1 c2 : Int32} {a1 a2 a3 a4 a5 a6 a7 a8 a9 : Nat → Int32} {C R : Nat} {F : Nat → Nat → Prop} {cs : List Nat} (hbd : ap_bd C R F) (hl : cs.length ≤ 1024) (hr : ap_rep cs a7) (hA : ∀ c, c ∈ cs → ap_fr F c) (hB : ∀ n, ap_fr F n → ∃ c, c ∈ cs ∧ ap_ins n c)
    (H : ∀ l a, ap_holes (ap_mx F) l → ap_rep l a → post (c0, c1, c2, nI l.length, nI cs.length, a1, a2, a3, a4, a5, a, a7, a8, a9)) : ∃ n, wX_splitHoles_95 post c0 c1 c2 (nI cs.length) n 0 0 a1 a2 a3 a4 a5 a6 a7 a8 a9 := by
  refine pk_loop (fun n k (s : List Nat × (Nat → Int32)) => wX_splitHoles_95 post c0 c1 c2 (nI cs.length) n (nI k) (nI s.1.length) a1 a2 a3 a4 a5 s.2 a7 a8 a9) (fun k s => ap_rep s.1 s.2 ∧ s.1.Nodup ∧ ∀ n, n ∈ s.1 ↔ ∃ j, j < k ∧ ¬ ap_cv cs j ∧ cs.getD j 0 = n) cs.length 0 ([], a6) (by omega) ⟨ap_rep0, List.nodup_nil, fun n => ⟨fun z => absurd z List.not_mem_nil, fun ⟨j, j1, _⟩ => absurd j1 (Nat.not_lt_zero j)⟩⟩ ?_ ?_
  · intro n s ⟨h1, h2, h3⟩
    refine pk_le cs.length cs.length (fun _ => H s.1 s.2 ⟨h2, fun m => ?_⟩ h1) (fun z => absurd z (by omega))
    rw [h3 m]
    constructor
    · intro ⟨j, j1, j2, j3⟩
      rw [← j3]
      exact ap_kpD hA hB j1 j2
    · intro hm
      exact ap_kpE hA hB hm
  · intro n k s hk ⟨h1, h2, h3⟩ hw
    refine pk_le cs.length k (fun z => absurd z (by omega)) (fun _ => ap_isCov hl hr (fun c hc => ap_frx hbd (hA c hc)) hk (fun hcv => br_f (by decide) (nm_r (nI_1 k) (hw s ⟨h1, h2, fun m => ?_⟩))) (fun hcv => ?_))
    · rw [h3 m]
      constructor
      · intro ⟨j, j1, j2⟩
        exact ⟨j, by omega, j2⟩
      · intro ⟨j, j1, j2, j3⟩
        by_cases e : j = k
        · rw [e] at j2
          exact absurd hcv j2
        · exact ⟨j, by omega, j2, j3⟩
    · have nn : cs.getD k 0 ∉ s.1 := by
        intro hin
        obtain ⟨j, j1, j2, j3⟩ := (h3 _).mp hin
        exact ap_kpC j1 hk hcv j3
      have nd := ap_nodS h2 nn
      have mem : ∀ m, m ∈ s.1 ++ [cs.getD k 0] ↔ ∃ j, j < k + 1 ∧ ¬ ap_cv cs j ∧ cs.getD j 0 = m := by
        intro m
        rw [ap_memS, h3 m]
        constructor
        · intro hm
          rcases hm with ⟨j, j1, j2⟩ | hm
          · exact ⟨j, by omega, j2⟩
          · exact ⟨k, by omega, hcv, hm.symm⟩
        · intro ⟨j, j1, j2, j3⟩
          by_cases e : j = k
          · rw [e] at j3
            exact Or.inr j3.symm
          · exact Or.inl ⟨j, by omega, j2, j3⟩
      have lim := ap_256 hbd nd (fun m hm => by
        obtain ⟨j, j1, j2, j3⟩ := (mem m).mp hm
        rw [← j3]
        exact ap_kpD hA hB (by omega) j2)
      rw [ap_len] at lim
      have t := hw (s.1 ++ [cs.getD k 0], upd s.2 s.1.length (nI (cs.getD k 0))) ⟨ap_repS h1, nd, mem⟩
      have t : wX_splitHoles_95 post c0 c1 c2 (nI cs.length) n (nI (k + 1)) (nI (s.1 ++ [cs.getD k 0]).length) a1 a2 a3 a4 a5 (upd s.2 s.1.length (nI (cs.getD k 0))) a7 a8 a9 := t
      rw [ap_len] at t
      refine br_t rfl ⟨pk_in k 1024 (by omega), pk_in s.1.length 256 (by omega), nm_r (e' := upd s.2 s.1.length (nI (cs.getD k 0))) ?_ (nm_r (nI_1 _) (nm_r (nI_1 k) t))⟩
      rw [nI_clamp (by omega), nI_clamp (by omega), hr k hk]
theorem ap_sh36 {post : St2 → Prop} {c0 c1 c2 : Int32} {a1 a2 a3 a4 a5 a6 a7 a8 a9 : Nat → Int32} {F : Nat → Nat → Prop} {C R t : Nat} {l : List Nat} (hbd : ap_bd C R F) (ht : t < 1048576) (b3 : ap_x t + ap_w t ≤ 16) (b4 : ap_y t + ap_h t ≤ 16) (hl : l.length ≤ 256) (hr : ap_rep l a6) (hfr : ∀ n, n ∈ l → ap_fr F n)
    (H : ∀ cs a, cs.length ≤ 1024 → ap_rep cs a → (∀ c, c ∈ cs ↔ ∃ n, n ∈ l ∧ ap_cd t n c) → ∃ n, wX_splitHoles_95 post c0 c1 c2 (nI cs.length) n 0 0 a1 a2 a3 a4 a5 a6 a a8 a9) : ∃ n, wX_splitHoles_36 post (nI t) n 0 c0 c1 c2 (nI l.length) 0 a1 a2 a3 a4 a5 a6 a7 a8 a9 := by
  refine pk_loop (fun n k (s : List Nat × (Nat → Int32)) => wX_splitHoles_36 post (nI t) n (nI k) c0 c1 c2 (nI l.length) (nI s.1.length) a1 a2 a3 a4 a5 a6 s.2 a8 a9) (fun k s => s.1.length ≤ 4 * k ∧ ap_rep s.1 s.2 ∧ ∀ c, c ∈ s.1 ↔ ∃ j, j < k ∧ ap_cd t (l.getD j 0) c) l.length 0 ([], a7) (by omega) ⟨Nat.zero_le _, ap_rep0, fun n => ⟨fun z => absurd z List.not_mem_nil, fun ⟨j, j1, _⟩ => absurd j1 (Nat.not_lt_zero j)⟩⟩ ?_ ?_
  · intro n s ⟨h1, h2, h3⟩
    refine pk_le l.length l.length (fun _ => H s.1 s.2 (by omega) h2 (fun c => ?_)) (fun z => absurd z (by omega))
    rw [h3 c]
    constructor
    · intro ⟨j, j1, j2⟩
      exact ⟨_, ap_gm j1, j2⟩
    · intro ⟨m, m1, m2⟩
      obtain ⟨j, j1, j2⟩ := ap_mg m1
      rw [← j2] at m2
      exact ⟨j, j1, m2⟩
  · intro n k s hk ⟨h1, h2, h3⟩ hw
    have hf := hfr _ (ap_gm hk)
    have hn := ap_frx hbd hf
    have bb := ap_frb hbd hf
    have g1 := hbd.1
    have g2 := hbd.2.1
    have ea : a6 (nI k).toNatClampNeg = nI (l.getD k 0) := by
      rw [nI_clamp (by omega)]
      exact hr k hk
    refine pk_le l.length k (fun z => absurd z (by omega)) (fun _ => ⟨pk_in k 256 (by omega), ap_meets ea rfl hn ht (fun hm => br_f (by decide) ⟨pk_in k 256 (by omega), ?_⟩) (fun hm => br_t rfl ⟨pk_in k 256 (by omega), ?_⟩)⟩)
    · refine ap_splitOne ea rfl hn ht (by omega) (by omega) b3 b4 (by omega) h2 (fun a ha => nm_r (nI_1 k) (hw (s.1 ++ ap_s1 (l.getD k 0) t ++ ap_s2 (l.getD k 0) t ++ ap_s3 (l.getD k 0) t ++ ap_s4 (l.getD k 0) t, a) ⟨?_, ha, fun c => ?_⟩))
      · have q1 : (ap_s1 (l.getD k 0) t).length ≤ 1 := ap_l1
        have q2 : (ap_s2 (l.getD k 0) t).length ≤ 1 := ap_l1
        have q3 : (ap_s3 (l.getD k 0) t).length ≤ 1 := ap_l1
        have q4 : (ap_s4 (l.getD k 0) t).length ≤ 1 := ap_l1
        show (s.1 ++ ap_s1 (l.getD k 0) t ++ ap_s2 (l.getD k 0) t ++ ap_s3 (l.getD k 0) t ++ ap_s4 (l.getD k 0) t).length ≤ 4 * (k + 1)
        rw [List.length_append, List.length_append, List.length_append, List.length_append]
        omega
      · show c ∈ s.1 ++ ap_s1 (l.getD k 0) t ++ ap_s2 (l.getD k 0) t ++ ap_s3 (l.getD k 0) t ++ ap_s4 (l.getD k 0) t ↔ _
        rw [List.mem_append, List.mem_append, List.mem_append, List.mem_append, or_assoc, or_assoc, or_assoc, ← ap_spm, h3 c]
        constructor
        · intro z
          rcases z with ⟨j, j1, j2⟩ | z
          · exact ⟨j, by omega, j2⟩
          · exact ⟨k, by omega, Or.inr ⟨hm, z⟩⟩
        · intro ⟨j, j1, j2⟩
          by_cases e : j = k
          · rw [e] at j2
            rcases j2 with j2 | j2
            · exact absurd hm j2.1
            · exact Or.inr j2.2
          · exact Or.inl ⟨j, by omega, j2⟩
    · refine ap_keepC ea (by omega) h2 (fun a ha => nm_r (nI_1 k) (hw (s.1 ++ [l.getD k 0], a) ⟨?_, ha, fun c => ?_⟩))
      · show (s.1 ++ [l.getD k 0]).length ≤ 4 * (k + 1)
        rw [ap_len]
        omega
      · show c ∈ s.1 ++ [l.getD k 0] ↔ _
        rw [ap_memS, h3 c]
        constructor
        · intro z
          rcases z with ⟨j, j1, j2⟩ | z
          · exact ⟨j, by omega, j2⟩
          · exact ⟨k, by omega, Or.inl ⟨hm, z⟩⟩
        · intro ⟨j, j1, j2⟩
          by_cases e : j = k
          · rw [e] at j2
            rcases j2 with j2 | j2
            · exact Or.inr j2.2
            · exact absurd j2.1 hm
          · exact Or.inl ⟨j, by omega, j2⟩
theorem ap_splitHoles {post : St2 → Prop} {c0 c1 c2 c4 : Int32} {a1 a2 a3 a4 a5 a6 a7 a8 a9 : Nat → Int32} {F F' : Nat → Nat → Prop} {C R i x y w h : Nat} {l : List Nat} (hbd : ap_bd C R F) (hbd' : ap_bd C R F') (hi : i < 20) (e1 : a1 i = nI x) (e2 : a2 i = nI y) (e3 : a3 i = nI w) (e4 : a4 i = nI h) (w1 : 1 ≤ w) (h1 : 1 ≤ h) (b3 : x + w ≤ 16) (b4 : y + h ≤ 16)
    (hF : ∀ u v, F' u v ↔ F u v ∧ ¬ ap_c (ap_pk x y w h) u v) (hh : ap_holes (ap_mx F) l) (hr : ap_rep l a6)
    (H : ∀ l' c a b, ap_holes (ap_mx F') l' → ap_rep l' a → post (c0, c1, c2, nI l'.length, c, a1, a2, a3, a4, a5, a, b, a8, a9)) : wpX_splitHoles post (c0, c1, c2, nI l.length, c4, a1, a2, a3, a4, a5, a6, a7, a8, a9) (nI i) := by
  unfold wpX_splitHoles
  refine ⟨pk_in i 20 hi, pk_in i 20 hi, pk_in i 20 hi, pk_in i 20 hi, ?_⟩
  rw [nI_clamp (by omega)]
  refine ap_pack x y w h e1 e2 e3 e4 (by omega) (by omega) (by omega) (by omega) ?_
  have y32 : y < 32 := by omega
  have w32 : w < 32 := by omega
  have h32 : h < 32 := by omega
  refine ap_sh36 hbd (by unfold ap_pk; omega) (by rw [ap_pkx y32 w32 h32, ap_pkw y32 w32 h32]; exact b3) (by rw [ap_pky y32 w32 h32, ap_pkh y32 w32 h32]; exact b4) (ap_256 hbd hh.1 (fun n hn => (hh.2 n).mp hn)) hr (fun n hn => ((hh.2 n).mp hn).1) (fun cs a hl ha hm => ?_)
  refine ap_sh95 hbd' hl ha (fun c hc => ?_) (fun n hn => ?_) (fun l' a' g1 g2 => H l' _ a' a g1 g2)
  · obtain ⟨n, n1, n2⟩ := (hm c).mp hc
    exact ap_cdA hbd hF ((hh.2 n).mp n1).1 n2
  · have hn' : ap_fr F n := ⟨hn.1, hn.2.1, fun u v huv => ((hF u v).mp (hn.2.2 u v huv)).1⟩
    obtain ⟨m, m1, m2⟩ := ap_exm0 hbd hn'
    obtain ⟨c, c1, c2⟩ := ap_cdB (by rw [ap_pkw y32 w32 h32]; exact w1) (by rw [ap_pkh y32 w32 h32]; exact h1) hbd hF m1.1 hn m2
    exact ⟨c, (hm c).mpr ⟨m, (hh.2 m).mpr m1, c1⟩, c2⟩
end
section
/-! finding the holes again, walked -/
theorem ap_htb {C R y : Nat} {F : Nat → Nat → Prop} {T : Nat → Nat} (hb : ap_bd C R F) (ht : ap_ht F y T) (hy : y ≤ R) (x : Nat) : y + T x ≤ R ∧ (C ≤ x → T x = 0) := by
  by_cases e : T x = 0
  · exact ⟨by omega, fun _ => e⟩
  · have g := hb.2.2 _ _ ((ht x).1 (y + T x - 1) (by omega) (by omega))
    exact ⟨by omega, fun z => absurd z (by omega)⟩
theorem ap_height {post : Int32 → Prop} {c0 c2 c3 c4 : Int32} {a1 a2 a3 a4 a5 a6 a7 a8 a9 : Nat → Int32} {C R x y : Nat} {F : Nat → Nat → Prop} {T : Nat → Nat} (hb : ap_bd C R F) (ht : ap_ht F y T) (hrow : ∀ v, v < R → ap_row (fun u => F u v) (a5 v)) (hy : y < R) (hx : x ≤ 16) (hp : post (nI (T x))) : wpX_heightAt post (c0, nI R, c2, c3, c4, a1, a2, a3, a4, a5, a6, a7, a8, a9) (nI x) (nI y) := by
  unfold wpX_heightAt
  have g1 := (ap_htb hb ht (Nat.le_of_lt hy) x).1
  have g2 := hb.2.1
  have ep : post (nI (y + T x) - nI y) := by
    rw [pk_sub (by omega), show y + T x - y = T x by omega]
    exact hp
  refine pk_loop (σ := Unit) (fun n k _ => wX_heightAt_2 post (nI x) (nI y) c0 (nI R) c2 c3 c4 a1 a2 a3 a4 a5 a6 a7 a8 a9 n (nI k)) (fun k _ => y ≤ k) (y + T x) y () (by omega) (Nat.le_refl _) ?_ ?_
  · intro n _ _
    refine pk_le R (y + T x) (fun _ => ep) (fun z => ⟨pk_in (y + T x) 16 (by omega), ?_⟩)
    rw [nI_clamp (by omega)]
    exact br_t ((ap_bit (hrow _ z) hx).mpr (ht x).2) ep
  · intro n k _ hk h hw
    refine pk_le R k (fun z => absurd z (by omega)) (fun z => ⟨pk_in k 16 (by omega), ?_⟩)
    rw [nI_clamp (by omega)]
    exact br_f (fun q => (ap_bit (hrow _ z) hx).mp q ((ht x).1 k h (by omega))) (nm_r (nI_1 k) (hw () (by omega)))
theorem ap_kil30 {post : St2 → Prop} {c0 c1 c2 c4 : Int32} {a1 a2 a3 a4 a5 a6 a7 a8 a9 : Nat → Int32} {l : List Nat} {p0 p1 p2 p3 : Int32} {s y w h : Nat} (e0 : p0 = nI s) (e1 : p1 = nI y) (e2 : p2 = nI w) (e3 : p3 = nI h) (b1 : s + w ≤ 16) (b2 : y + h ≤ 16) (hr : ap_rep l a6) (Hk : l.length < 256 ∧ ∀ a, ap_rep (l ++ [ap_pk s y w h]) a → post (c0, c1, c2, nI (l ++ [ap_pk s y w h]).length, c4, a1, a2, a3, a4, a5, a, a7, a8, a9)) : wX_keepIfLowest_30 post p0 p1 p2 p3 c0 c1 c2 (nI l.length) c4 a1 a2 a3 a4 a5 a6 a7 a8 a9 := by
  unfold wX_keepIfLowest_30
  obtain ⟨h1, h2⟩ := Hk
  have t := h2 _ (ap_repS hr)
  rw [ap_len] at t
  exact ap_pack s y w h e0 e1 e2 e3 (by omega) (by omega) (by omega) (by omega) ⟨pk_in _ 256 h1, nm_r (e' := upd a6 l.length (nI (ap_pk s y w h))) (by rw [nI_clamp (by omega)]) (nm_r (nI_1 _) t)⟩
theorem ap_kil {post : St2 → Prop} {c0 c1 c2 c4 : Int32} {a1 a2 a3 a4 a5 a6 a7 a8 a9 : Nat → Int32} {l : List Nat} {R : Nat} {F : Nat → Nat → Prop} {p0 p1 p2 p3 : Int32} {s y w h : Nat} (e0 : p0 = nI s) (e1 : p1 = nI y) (e2 : p2 = nI w) (e3 : p3 = nI h) (b1 : s + w ≤ 16) (b2 : y + h ≤ 16) (hy : y < R) (hR : R ≤ 16) (hrow : ∀ v, v < R → ap_row (fun u => F u v) (a5 v)) (hr : ap_rep l a6)
    (Hk : (0 < y → ∃ u, s ≤ u ∧ u < s + w ∧ ¬ F u (y - 1)) → l.length < 256 ∧ ∀ a, ap_rep (l ++ [ap_pk s y w h]) a → post (c0, c1, c2, nI (l ++ [ap_pk s y w h]).length, c4, a1, a2, a3, a4, a5, a, a7, a8, a9))
    (Hn : 0 < y → (∀ u, s ≤ u → u < s + w → F u (y - 1)) → post (c0, c1, c2, nI l.length, c4, a1, a2, a3, a4, a5, a6, a7, a8, a9)) : wpX_keepIfLowest post (c0, c1, c2, nI l.length, c4, a1, a2, a3, a4, a5, a6, a7, a8, a9) p0 p1 p2 p3 := by
  unfold wpX_keepIfLowest
  refine nm_r (e' := nI ((2 ^ w - 1) * 2 ^ s)) (by rw [e0, e2]; exact ap_strip (by omega) (by omega)) ?_
  refine pk_le y 0 (fun z => ap_kil30 e0 e1 e2 e3 b1 b2 hr (Hk (fun q => absurd q (by omega)))) (fun z => ?_) e1
  obtain ⟨y', rfl⟩ : ∃ y', y = y' + 1 := ⟨y - 1, by omega⟩
  have ep : p1 - 1 = nI y' := by
    rw [e1]
    exact nI_pred y'
  refine ⟨pk_in y' 16 (by omega) ep, ?_⟩
  rw [ep, nI_clamp (by omega)]
  have cv := ap_cov (hrow y' (by omega)) b1
  refine br_c (fun q => Hn z (fun u u1 u2 => cv.mp q u u1 u2)) (fun q => ap_kil30 e0 e1 e2 e3 b1 b2 hr (Hk (fun _ => ?_)))
  apply Classical.byContradiction
  intro hc
  exact q (cv.mpr (fun u u1 u2 => Classical.byContradiction (fun hf => hc ⟨u, u1, u2, hf⟩)))
/-- the arrays hold the stack -/
def ap_sk (d : Nat) (S K : Nat → Nat) (a8 a9 : Nat → Int32) : Prop := ∀ i, i < d → a8 i = nI (S i) ∧ a9 i = nI (K i)
theorem ap_sw105 {post : St2 → Prop} {J : Int32 → Int32 → Int32 → Int32 → Int32 → Int32 → Int32 → (Nat → Int32) → (Nat → Int32) → (Nat → Int32) → (Nat → Int32) → (Nat → Int32) → (Nat → Int32) → (Nat → Int32) → (Nat → Int32) → (Nat → Int32) → Prop} {c0 c1 c2 c3 c4 : Int32} {a1 a2 a3 a4 a5 a6 a7 a8 a9 : Nat → Int32} {x1 : Int32} {T S K : Nat → Nat} {x d d' st : Nat} (hs : ap_stk T x d S K) (hsk : ap_sk d S K a8 a9) (hd : d' ≤ d) (hp : ∀ i, d' ≤ i → i < d → T x < K i) (hq : ∀ i, i < d' → K i < T x) (h0 : 0 < T x) (e1 : d' = d → st = x) (e2 : d' < d → st = S d') (hx : x ≤ 16) (hT : T x ≤ 16)
    (HJ : ∀ d'' S' K' b8 b9, ap_stk T (x + 1) d'' S' K' → ap_sk d'' S' K' b8 b9 → J (nI d'') (nI (x + 1)) c0 c1 c2 c3 c4 a1 a2 a3 a4 a5 a6 a7 b8 b9) : wX_sweepFrom_105 post J x1 (nI d') (nI x) (nI (T x)) (nI st) c0 c1 c2 c3 c4 a1 a2 a3 a4 a5 a6 a7 a8 a9 := by
  unfold wX_sweepFrom_105
  have dx := hs.1
  have st16 : st ≤ 16 := by
    rcases Nat.lt_or_ge d' d with z | z
    · have g := (hs.2.1 d' z).2.1
      rw [← e2 z] at g
      omega
    · rw [e1 (by omega)]
      exact hx
  refine ⟨pk_in d' 17 (by omega), nm_r (e' := upd a8 d' (nI st)) (by rw [nI_clamp (by omega), ap_byte st (by omega)]) ⟨pk_in d' 17 (by omega), nm_r (e' := upd a9 d' (nI (T x))) (by rw [nI_clamp (by omega), ap_byte _ (by omega)]) (nm_r (nI_1 d') (nm_r (nI_1 x) ?_))⟩⟩
  refine HJ (d' + 1) (fun i => if i = d' then st else S i) (fun i => if i = d' then T x else K i) _ _ (ap_stkP hs hd hp hq h0 e1 e2 (fun i hi => if_neg (by omega)) (if_pos rfl) (fun i hi => if_neg (by omega)) (if_pos rfl)) (fun i hi => ?_)
  by_cases e : i = d'
  · rw [e, pk_us, pk_us]
    show nI st = nI (if d' = d' then st else S d') ∧ nI (T x) = nI (if d' = d' then T x else K d')
    rw [if_pos rfl, if_pos rfl]
    exact ⟨rfl, rfl⟩
  · rw [pk_un e, pk_un e]
    show a8 i = nI (if i = d' then st else S i) ∧ a9 i = nI (if i = d' then T x else K i)
    rw [if_neg e, if_neg e]
    exact hsk i (by omega)
theorem ap_sw83 {post : St2 → Prop} {J : Int32 → Int32 → Int32 → Int32 → Int32 → Int32 → Int32 → (Nat → Int32) → (Nat → Int32) → (Nat → Int32) → (Nat → Int32) → (Nat → Int32) → (Nat → Int32) → (Nat → Int32) → (Nat → Int32) → (Nat → Int32) → Prop} {c0 c1 c2 c3 c4 : Int32} {a1 a2 a3 a4 a5 a6 a7 a8 a9 : Nat → Int32} {x1 : Int32} {T S K : Nat → Nat} {x d d' st : Nat} (hs : ap_stk T x d S K) (hsk : ap_sk d S K a8 a9) (hd : d' ≤ d) (hp : ∀ i, d' ≤ i → i < d → T x < K i) (hq : ∀ i, i < d' → K i ≤ T x) (e1 : d' = d → st = x) (e2 : d' < d → st = S d') (hx : x ≤ 16) (hT : ∀ u, T u ≤ 16)
    (HJ : ∀ d'' S' K' b8 b9, ap_stk T (x + 1) d'' S' K' → ap_sk d'' S' K' b8 b9 → J (nI d'') (nI (x + 1)) c0 c1 c2 c3 c4 a1 a2 a3 a4 a5 a6 a7 b8 b9) : wX_sweepFrom_83 post J x1 (nI d') (nI x) (nI (T x)) (nI st) c0 c1 c2 c3 c4 a1 a2 a3 a4 a5 a6 a7 a8 a9 := by
  unfold wX_sweepFrom_83
  have dx := hs.1
  have tx := hT x
  have hsk' : ap_sk d' S K a8 a9 := fun i hi => hsk i (by omega)
  refine pk_le (T x) 0 (fun z => nm_r (nI_1 x) (HJ d' S K a8 a9 (ap_stkN hs hd hp hq (Or.inl (by omega))) hsk')) (fun z => ?_)
  refine pk_eq d' 0 (fun q => ap_sw105 hs hsk hd hp (fun i hi => absurd hi (by omega)) z e1 e2 hx tx HJ) (fun q => ?_)
  obtain ⟨t, rfl⟩ : ∃ t, d' = t + 1 := ⟨d' - 1, by omega⟩
  refine ⟨pk_in t 17 (by omega) (nI_pred t), ?_⟩
  obtain ⟨p1, p2, p3, _⟩ := hs.2.1 t (by omega)
  have p4 := p3 (S t) (Nat.le_refl _) p2
  have p5 := hT (S t)
  rw [nI_pred, nI_clamp (by omega), (hsk t (by omega)).2]
  refine pk_le (T x) (K t) (fun g => nm_r (nI_1 x) (HJ (t + 1) S K a8 a9 (ap_stkN hs hd hp hq (Or.inr ⟨t, by omega, ?_⟩)) hsk')) (fun g => ap_sw105 hs hsk hd hp (fun i hi => ?_) z e1 e2 hx tx HJ)
  · have g2 := hq t (by omega)
    omega
  · by_cases e : i = t
    · rw [e]
      exact g
    · have g2 := hs.2.2.1 i t (by omega) (by omega)
      omega
theorem ap_sw35 {post : St2 → Prop} {J : Int32 → Int32 → Int32 → Int32 → Int32 → Int32 → Int32 → (Nat → Int32) → (Nat → Int32) → (Nat → Int32) → (Nat → Int32) → (Nat → Int32) → (Nat → Int32) → (Nat → Int32) → (Nat → Int32) → (Nat → Int32) → Prop} {c0 c1 c2 c4 : Int32} {a1 a2 a3 a4 a5 a6 a7 a8 a9 : Nat → Int32} {C R y x d : Nat} {F : Nat → Nat → Prop} {T S K : Nat → Nat} {l : List Nat} (hb : ap_bd C R F) (ht : ap_ht F y T) (hrow : ∀ v, v < R → ap_row (fun u => F u v) (a5 v)) (hy : y < R) (hx : x ≤ C) (hs : ap_stk T x d S K) (hsk : ap_sk d S K a8 a9) (hh : ap_holes (ap_done F y x) l) (hr : ap_rep l a6)
    (HJ : ∀ l' a d'' S' K' b8 b9, ap_holes (ap_done F y (x + 1)) l' → ap_rep l' a → ap_stk T (x + 1) d'' S' K' → ap_sk d'' S' K' b8 b9 → J (nI d'') (nI (x + 1)) c0 c1 c2 (nI l'.length) c4 a1 a2 a3 a4 a5 a a7 b8 b9) : ∃ n, wX_sweepFrom_35 post J (nI y) (nI x) (nI (T x)) n (nI d) (nI x) c0 c1 c2 (nI l.length) c4 a1 a2 a3 a4 a5 a6 a7 a8 a9 := by
  have hC := hb.1
  have hR := hb.2.1
  have hT : ∀ u, T u ≤ 16 := fun u => by
    have g := (ap_htb hb ht (Nat.le_of_lt hy) u).1
    omega
  have tx := hT x
  have fin : ∀ (k : Nat) (s : List Nat × (Nat → Int32)), k ≤ d → (∀ i, k ≤ i → i < d → T x < K i) → (∀ i, i < k → K i ≤ T x) → ap_holes (ap_P F y x S K d k) s.1 → ap_rep s.1 s.2 → wX_sweepFrom_83 post J (nI y) (nI k) (nI x) (nI (T x)) (nI (if k = d then x else S k)) c0 c1 c2 (nI s.1.length) c4 a1 a2 a3 a4 a5 s.2 a7 a8 a9 := by
    intro k s hk hp hq h3 h4
    refine ap_sw83 hs hsk hk hp hq (fun z => if_pos z) (fun z => if_neg (by omega)) (by omega) hT (fun d'' S' K' b8 b9 k1 k2 => HJ s.1 s.2 d'' S' K' b8 b9 ⟨h3.1, fun n => ?_⟩ h4 k1 k2)
    rw [h3.2 n]
    exact ap_Pe hb ht hs hx hq
  have main := pk_loopD (fun n k (s : List Nat × (Nat → Int32)) => wX_sweepFrom_35 post J (nI y) (nI x) (nI (T x)) n (nI k) (nI (if k = d then x else S k)) c0 c1 c2 (nI s.1.length) c4 a1 a2 a3 a4 a5 s.2 a7 a8 a9) (fun k s => k ≤ d ∧ (∀ i, k ≤ i → i < d → T x < K i) ∧ ap_holes (ap_P F y x S K d k) s.1 ∧ ap_rep s.1 s.2)
    (fun n s hI => pk_le 0 0 (fun _ => fin 0 s hI.1 hI.2.1 (fun i hi => absurd hi (Nat.not_lt_zero i)) hI.2.2.1 hI.2.2.2) (fun z => absurd z (by omega)))
    (fun n k s hI hw => by
      obtain ⟨h1, h2, h3, h4⟩ := hI
      have dx := hs.1
      have hkd : k < d := by omega
      have hka := (hsk k hkd).1
      have hkb := (hsk k hkd).2
      obtain ⟨q1, q2, q3, q4⟩ := ap_popB hb ht hs hkd hx
      refine pk_le (k + 1) 0 (fun z => absurd z (by omega)) (fun _ => ⟨pk_in k 17 (by omega) (nI_pred k), ?_⟩)
      rw [nI_pred, nI_clamp (by omega), hkb]
      refine pk_le (K k) (T x) (fun z => fin (k + 1) s h1 h2 (fun i hi => ?_) h3 h4) (fun z => nm_r (pk_m1 k) ⟨pk_in k 17 (by omega), nm_r (e' := nI (S k)) (by rw [nI_clamp (by omega)]; exact hka) ⟨pk_in k 17 (by omega), ?_⟩⟩)
      · by_cases e : i = k
        · rw [e]
          exact z
        · have g := hs.2.2.1 i k (by omega) hkd
          omega
      · have hp' : ∀ i, k ≤ i → i < d → T x < K i := by
          intro i i1 i2
          by_cases e : i = k
          · rw [e]
            exact z
          · exact h2 i (by omega) i2
        refine ap_kil (w := x - S k) (h := K k) (F := F) rfl rfl (pk_sub (by omega)) (by rw [nI_clamp (by omega)]; exact hkb) (by omega) (by omega) hy hR hrow h4 (fun hl => ?_) (fun y0 hl => ?_)
        · have hm := ap_popM hb ht hs hkd z hx (fun y0 => by
            obtain ⟨u, u1, u2, u3⟩ := hl y0
            exact ⟨u, u1, by omega, u3⟩)
          have nd : (s.1 ++ [ap_pk (S k) y (x - S k) (K k)]).Nodup := ap_nodS h3.1 (fun z => ap_Pn hb ht hs hkd hx ((h3.2 _).mp z))
          have mem : ∀ m, m ∈ s.1 ++ [ap_pk (S k) y (x - S k) (K k)] ↔ ap_P F y x S K d k m := by
            intro m
            rw [ap_memS, ap_Ps hkd, h3.2 m]
            constructor
            · intro g
              rcases g with g | g
              · exact Or.inl g
              · rw [g]
                exact Or.inr ⟨hm, rfl⟩
            · intro g
              rcases g with g | g
              · exact Or.inl g
              · exact Or.inr g.2
          have lim := ap_256 hb nd (fun m g => by
            rcases (mem m).mp g with g | g
            · exact g.1
            · exact g.1)
          rw [ap_len] at lim
          refine ⟨by omega, fun a ha => ?_⟩
          have t := hw (s.1 ++ [ap_pk (S k) y (x - S k) (K k)], a) ⟨by omega, hp', ⟨nd, mem⟩, ha⟩
          have t : wX_sweepFrom_35 post J (nI y) (nI x) (nI (T x)) n (nI k) (nI (if k = d then x else S k)) c0 c1 c2 (nI (s.1 ++ [ap_pk (S k) y (x - S k) (K k)]).length) c4 a1 a2 a3 a4 a5 a a7 a8 a9 := t
          rw [if_neg (by omega)] at t
          exact t
        · have hm := ap_popN hb ht hs hkd hx y0 (fun u u1 u2 => hl u u1 (by omega))
          have t := hw s ⟨by omega, hp', ⟨h3.1, fun m => ?_⟩, h4⟩
          · have t : wX_sweepFrom_35 post J (nI y) (nI x) (nI (T x)) n (nI k) (nI (if k = d then x else S k)) c0 c1 c2 (nI s.1.length) c4 a1 a2 a3 a4 a5 s.2 a7 a8 a9 := t
            rw [if_neg (by omega)] at t
            exact t
          · rw [ap_Ps hkd, h3.2 m]
            constructor
            · exact fun g => Or.inl g
            · intro g
              rcases g with g | g
              · exact g
              · rw [g.2] at g
                exact absurd g.1 hm)
  have t := main d (l, a6) ⟨Nat.le_refl d, fun i i1 i2 => absurd i2 (by omega), ⟨hh.1, fun n => by rw [hh.2 n, ap_P0]⟩, hr⟩
  have t : wX_sweepFrom_35 post J (nI y) (nI x) (nI (T x)) (d + 1) (nI d) (nI (if d = d then x else S d)) c0 c1 c2 (nI l.length) c4 a1 a2 a3 a4 a5 a6 a7 a8 a9 := t
  rw [if_pos rfl] at t
  exact ⟨d + 1, t⟩
theorem ap_sweep {post : St2 → Prop} {c2 c4 : Int32} {a1 a2 a3 a4 a5 a6 a7 a8 a9 : Nat → Int32} {C R y : Nat} {F : Nat → Nat → Prop} {l : List Nat} (hb : ap_bd C R F) (hrow : ∀ v, v < R → ap_row (fun u => F u v) (a5 v)) (hy : y < R) (hh : ap_holes (ap_done F y 0) l) (hr : ap_rep l a6)
    (H : ∀ l' a b8 b9, ap_holes (ap_done F (y + 1) 0) l' → ap_rep l' a → post (nI C, nI R, c2, nI l'.length, c4, a1, a2, a3, a4, a5, a, a7, b8, b9)) : wpX_sweepFrom post (nI C, nI R, c2, nI l.length, c4, a1, a2, a3, a4, a5, a6, a7, a8, a9) (nI y) := by
  unfold wpX_sweepFrom
  have hC := hb.1
  obtain ⟨T, ht⟩ := ap_htx hb y
  refine pk_loop (fun n x (s : Nat × List Nat × (Nat → Int32) × (Nat → Int32) × (Nat → Int32)) => wX_sweepFrom_4 post (nI y) n (nI s.1) (nI x) (nI C) (nI R) c2 (nI s.2.1.length) c4 a1 a2 a3 a4 a5 s.2.2.1 a7 s.2.2.2.1 s.2.2.2.2) (fun x s => ap_holes (ap_done F y x) s.2.1 ∧ ap_rep s.2.1 s.2.2.1 ∧ ∃ S K, ap_stk T x s.1 S K ∧ ap_sk s.1 S K s.2.2.2.1 s.2.2.2.2) (C + 1) 0 (0, l, a6, a8, a9) (by omega) ⟨hh, hr, fun _ => 0, fun _ => 0, ap_stk0, fun i hi => absurd hi (Nat.not_lt_zero i)⟩ ?_ ?_
  · intro n s ⟨h1, h2, _⟩
    refine pk_lt C (C + 1) (fun _ => H s.2.1 s.2.2.1 _ _ ⟨h1.1, fun m => ?_⟩ h2) (fun z => absurd z (by omega))
    rw [h1.2 m]
    constructor
    · intro ⟨m1, m2⟩
      exact ⟨m1, by omega⟩
    · intro ⟨m1, m2⟩
      have g := ap_frb hb m1.1
      exact ⟨m1, by omega⟩
  · intro n x s hx ⟨h1, h2, S, K, h3, h4⟩ hw
    have go := ap_sw35 (post := post) (J := wX_sweepFrom_4 post (nI y) n) (c0 := nI C) (c1 := nI R) (c2 := c2) (c4 := c4) (a1 := a1) (a2 := a2) (a3 := a3) (a4 := a4) (a5 := a5) (a7 := a7) hb ht hrow hy (by omega) h3 h4 h1 h2 (fun l' a d'' S' K' b8 b9 k1 k2 k3 k4 => hw (d'', l', a, b8, b9) ⟨k1, k2, S', K', k3, k4⟩)
    refine pk_lt C x (fun z => absurd z (by omega)) (fun _ => pk_le C x (fun z => ?_) (fun z => ap_height hb ht hrow hy (by omega) go))
    rw [(ap_htb hb ht (Nat.le_of_lt hy) x).2 z] at go
    exact go
theorem ap_find {post : St2 → Prop} {c2 c3 c4 : Int32} {a1 a2 a3 a4 a5 a6 a7 a8 a9 : Nat → Int32} {C R : Nat} {F : Nat → Nat → Prop} (hb : ap_bd C R F) (hrow : ∀ v, v < R → ap_row (fun u => F u v) (a5 v))
    (H : ∀ l' a b8 b9, ap_holes (ap_mx F) l' → ap_rep l' a → post (nI C, nI R, c2, nI l'.length, c4, a1, a2, a3, a4, a5, a, a7, b8, b9)) : wpX_findHoles post (nI C, nI R, c2, c3, c4, a1, a2, a3, a4, a5, a6, a7, a8, a9) := by
  unfold wpX_findHoles
  have hR := hb.2.1
  refine pk_loop (fun n y (s : List Nat × (Nat → Int32) × (Nat → Int32) × (Nat → Int32)) => wX_findHoles_7 post n (nI y) (nI C) (nI R) c2 (nI s.1.length) c4 a1 a2 a3 a4 a5 s.2.1 a7 s.2.2.1 s.2.2.2) (fun y s => ap_holes (ap_done F y 0) s.1 ∧ ap_rep s.1 s.2.1) R 0 ([], a6, a8, a9) (by omega) ⟨⟨List.nodup_nil, fun n => ⟨fun z => absurd z List.not_mem_nil, fun z => absurd z.2 (by omega)⟩⟩, ap_rep0⟩ ?_ ?_
  · intro n s ⟨h1, h2⟩
    refine pk_le R R (fun _ => H s.1 s.2.1 _ _ ⟨h1.1, fun m => ?_⟩ h2) (fun z => absurd z (by omega))
    rw [h1.2 m]
    constructor
    · exact fun g => g.1
    · intro g
      have t := ap_frb hb g.1
      have t2 := g.1.2.1
      exact ⟨g, by omega⟩
  · intro n y s hy ⟨h1, h2⟩ hw
    exact pk_le R y (fun z => absurd z (by omega)) (fun _ => ap_sweep hb hrow hy h1 h2 (fun l' a b8 b9 k1 k2 => nm_r (nI_1 y) (hw (l', a, b8, b9) ⟨k1, k2⟩)))
end
section
/-! placing, removing, clearing -/
def ap_fu (f : Nat → Nat) (i v : Nat) : Nat → Nat := fun j => if j = i then v else f j
theorem ap_ups {f : Nat → Nat} {i v : Nat} : ap_fu f i v i = v := if_pos rfl
theorem ap_upn {f : Nat → Nat} {i j v : Nat} (h : j ≠ i) : ap_fu f i v j = f j := if_neg h
def ap_cnt (W : Nat → Nat) : Nat → Nat
  | 0 => 0
  | k + 1 => ap_cnt W k + (if W k = 0 then 0 else 1)
theorem ap_cle {W : Nat → Nat} : ∀ k, ap_cnt W k ≤ k
  | 0 => Nat.le_refl 0
  | k + 1 => by
    have t := ap_cle (W := W) k
    show ap_cnt W k + (if W k = 0 then 0 else 1) ≤ k + 1
    split <;> omega
theorem ap_cz {W : Nat → Nat} : ∀ k, ap_cnt W k < k → ∃ j, j < k ∧ W j = 0
  | 0 => fun h => absurd h (Nat.not_lt_zero _)
  | k + 1 => fun h => by
    by_cases e : W k = 0
    · exact ⟨k, by omega, e⟩
    · have h : ap_cnt W k + (if W k = 0 then 0 else 1) < k + 1 := h
      rw [if_neg e] at h
      obtain ⟨j, j1, j2⟩ := ap_cz (W := W) k (by omega)
      exact ⟨j, by omega, j2⟩
theorem ap_ceq {W V : Nat → Nat} : ∀ k, (∀ j, j < k → W j = V j) → ap_cnt W k = ap_cnt V k
  | 0 => fun _ => rfl
  | k + 1 => fun h => by
    show ap_cnt W k + (if W k = 0 then 0 else 1) = ap_cnt V k + (if V k = 0 then 0 else 1)
    rw [ap_ceq k (fun j hj => h j (by omega)), h k (by omega)]
theorem ap_cup {W : Nat → Nat} {i v : Nat} (h0 : W i = 0) (hv : v ≠ 0) : ∀ k, i < k → ap_cnt (ap_fu W i v) k = ap_cnt W k + 1
  | 0 => fun h => absurd h (Nat.not_lt_zero _)
  | k + 1 => fun h => by
    show ap_cnt (ap_fu W i v) k + (if ap_fu W i v k = 0 then 0 else 1) = ap_cnt W k + (if W k = 0 then 0 else 1) + 1
    by_cases e : i = k
    · rw [← e, ap_ups, if_neg hv, if_pos h0, ap_ceq (W := ap_fu W i v) (V := W) i (fun j hj => ap_upn (by omega))]
    · rw [ap_upn (by omega), ap_cup h0 hv k (by omega)]
      omega
theorem ap_rowE {P Q : Nat → Prop} {b : Int32} (h : ap_row P b) (e : ∀ u, P u ↔ Q u) : ap_row Q b := by
  obtain ⟨m, h1, h2, h3⟩ := h
  exact ⟨m, h1, h2, fun u => (h3 u).trans (e u)⟩
theorem ap_flip {post : St2 → Prop} {c0 c1 c2 c3 c4 : Int32} {a1 a2 a3 a4 a5 a6 a7 a8 a9 : Nat → Int32} {F G : Nat → Nat → Prop} {R i x y w h : Nat} (hi : i < 20) (e1 : a1 i = nI x) (e2 : a2 i = nI y) (e3 : a3 i = nI w) (e4 : a4 i = nI h) (hx : x + w ≤ 16) (hy : y + h ≤ R) (hR : R ≤ 16) (hrow : ∀ v, v < R → ap_row (fun u => F u v) (a5 v))
    (hG : ∀ u v, v < R → (G u v ↔ ((F u v ∧ ¬ (x ≤ u ∧ u < x + w ∧ y ≤ v ∧ v < y + h)) ∨ (¬ F u v ∧ (x ≤ u ∧ u < x + w ∧ y ≤ v ∧ v < y + h)))))
    (H : ∀ a, (∀ v, v < R → ap_row (fun u => G u v) (a v)) → post (c0, c1, c2, c3, c4, a1, a2, a3, a4, a, a6, a7, a8, a9)) : wpX_flip post (c0, c1, c2, c3, c4, a1, a2, a3, a4, a5, a6, a7, a8, a9) (nI i) := by
  unfold wpX_flip
  refine ⟨pk_in i 20 hi, pk_in i 20 hi, nm_r (e' := nI ((2 ^ w - 1) * 2 ^ x)) ?_ ⟨pk_in i 20 hi, nm_r (e' := nI y) ?_ ?_⟩⟩
  · rw [nI_clamp (by omega), e1, e3]
    exact ap_strip (by omega) (by omega)
  · rw [nI_clamp (by omega), e2]
  · refine pk_loop (fun n k (s : Nat → Int32) => wX_flip_25 post (nI i) (nI ((2 ^ w - 1) * 2 ^ x)) c0 c1 c2 c3 c4 n (nI k) a1 a2 a3 a4 s a6 a7 a8 a9) (fun k s => y ≤ k ∧ (∀ v, v < R → y ≤ v → v < k → ap_row (fun u => G u v) (s v)) ∧ (∀ v, v < R → (v < y ∨ k ≤ v) → s v = a5 v)) (y + h) y a5 (by omega) ⟨Nat.le_refl _, fun v _ v1 v2 => absurd v2 (by omega), fun v _ _ => rfl⟩ ?_ ?_
    · intro n s ⟨_, h1, h2⟩
      refine ⟨pk_in i 20 hi, pk_in i 20 hi, ?_⟩
      rw [nI_clamp (show i < 2 ^ 31 by omega), e2, e4]
      refine pk_le (y + h) (y + h) (fun _ => H s (fun v hv => ?_)) (fun z => absurd z (by omega)) (nI_add _ _)
      by_cases z : y ≤ v ∧ v < y + h
      · exact h1 v hv z.1 z.2
      · rw [h2 v hv (by omega)]
        refine ap_rowE (hrow v hv) (fun u => ?_)
        show F u v ↔ G u v
        rw [hG u v hv]
        constructor
        · exact fun g => Or.inl ⟨g, fun t => z ⟨t.2.2.1, t.2.2.2⟩⟩
        · intro g
          rcases g with g | g
          · exact g.1
          · exact absurd ⟨g.2.2.2.1, g.2.2.2.2⟩ z
    · intro n k s hk ⟨h0, h1, h2⟩ hw
      refine ⟨pk_in i 20 hi, pk_in i 20 hi, ?_⟩
      rw [nI_clamp (show i < 2 ^ 31 by omega), e2, e4]
      refine pk_le (y + h) k (fun z => absurd z (by omega)) (fun _ => ⟨pk_in k 16 (by omega), pk_in k 16 (by omega), nm_r (e' := upd s k (s k ^^^ nI ((2 ^ w - 1) * 2 ^ x))) (by rw [nI_clamp (by omega)]) (nm_r (nI_1 k) (hw _ ⟨by omega, fun v hv v1 v2 => ?_, fun v hv hv2 => ?_⟩))⟩) (nI_add _ _)
      · by_cases e : v = k
        · rw [e, pk_us, h2 k (by omega) (Or.inr (Nat.le_refl _))]
          refine ap_rowX (hrow k (by omega)) hx (fun u => ?_)
          show G u k ↔ _
          have q : (x ≤ u ∧ u < x + w ∧ y ≤ k ∧ k < y + h) ↔ (x ≤ u ∧ u < x + w) := by omega
          rw [hG u k (by omega), q]
        · rw [pk_un e]
          exact h1 v hv v1 (by omega)
      · rw [pk_un (by omega)]
        exact h2 v hv (by omega)
/-- the state holds the picture: rectangles L B W H, holes l -/
def ap_ok (C R : Nat) (L B W H : Nat → Nat) (l : List Nat) (c2 : Int32) (a1 a2 a3 a4 a5 a6 : Nat → Int32) : Prop :=
  1 ≤ C ∧ 1 ≤ R ∧ ap_arr L B W H a1 a2 a3 a4 ∧ ap_geo C R L B W H ∧ (∀ v, v < R → ap_row (fun u => ap_F C R L B W H u v) (a5 v)) ∧ ap_holes (ap_mx (ap_F C R L B W H)) l ∧ ap_rep l a6 ∧ c2 = nI (ap_cnt W 20)
theorem ap_cui {L B W H : Nat → Nat} {i x y w h u v : Nat} : ap_cell (ap_fu L i x) (ap_fu B i y) (ap_fu W i w) (ap_fu H i h) i u v ↔ (x ≤ u ∧ u < x + w ∧ y ≤ v ∧ v < y + h) := by
  unfold ap_cell
  rw [ap_ups, ap_ups, ap_ups, ap_ups]
theorem ap_cuj {L B W H : Nat → Nat} {i j x y w h u v : Nat} (e : j ≠ i) : ap_cell (ap_fu L i x) (ap_fu B i y) (ap_fu W i w) (ap_fu H i h) j u v ↔ ap_cell L B W H j u v := by
  unfold ap_cell
  rw [ap_upn e, ap_upn e, ap_upn e, ap_upn e]
theorem ap_Fpl {C R : Nat} {L B W H : Nat → Nat} {i x y w h u v : Nat} (hi : i < 20) (hW : W i = 0) : ap_F C R (ap_fu L i x) (ap_fu B i y) (ap_fu W i w) (ap_fu H i h) u v ↔ ap_F C R L B W H u v ∧ ¬ (x ≤ u ∧ u < x + w ∧ y ≤ v ∧ v < y + h) := by
  constructor
  · intro ⟨h1, h2, h3⟩
    refine ⟨⟨h1, h2, fun j hj hc => ?_⟩, fun t => h3 i hi (ap_cui.mpr t)⟩
    by_cases e : j = i
    · rw [e] at hc
      obtain ⟨k1, k2, _⟩ := hc
      omega
    · exact h3 j hj ((ap_cuj e).mpr hc)
  · intro ⟨⟨h1, h2, h3⟩, h4⟩
    refine ⟨h1, h2, fun j hj hc => ?_⟩
    by_cases e : j = i
    · rw [e] at hc
      exact h4 (ap_cui.mp hc)
    · exact h3 j hj ((ap_cuj e).mp hc)
theorem ap_geoP {C R : Nat} {L B W H : Nat → Nat} {i x y w h : Nat} (hG : ap_geo C R L B W H) (hi : i < 20) (h1 : 1 ≤ h) (b1 : x + w ≤ C) (b2 : y + h ≤ R) (hf : ∀ u v, (x ≤ u ∧ u < x + w ∧ y ≤ v ∧ v < y + h) → ap_F C R L B W H u v) : ap_geo C R (ap_fu L i x) (ap_fu B i y) (ap_fu W i w) (ap_fu H i h) := by
  obtain ⟨g1, g2, g3, g4⟩ := hG
  refine ⟨g1, g2, fun j hj hw => ?_, fun j k u v hj hk c1 c2 => ?_⟩
  · by_cases e : j = i
    · rw [e, ap_ups, ap_ups, ap_ups, ap_ups]
      exact ⟨h1, b1, b2⟩
    · rw [ap_upn e] at hw
      rw [ap_upn e, ap_upn e, ap_upn e, ap_upn e]
      exact g3 j hj hw
  · by_cases e : j = i
    · by_cases e' : k = i
      · rw [e, e']
      · rw [e] at c1
        exact absurd ((ap_cuj e').mp c2) ((hf u v (ap_cui.mp c1)).2.2 k hk)
    · by_cases e' : k = i
      · rw [e'] at c2
        exact absurd ((ap_cuj e).mp c1) ((hf u v (ap_cui.mp c2)).2.2 j hj)
      · exact g4 j k u v hj hk ((ap_cuj e).mp c1) ((ap_cuj e').mp c2)
theorem ap_arrP {L B W H : Nat → Nat} {a1 a2 a3 a4 : Nat → Int32} {i x y w h : Nat} (hA : ap_arr L B W H a1 a2 a3 a4) (b1 : x ≤ 16) (b2 : y ≤ 16) (b3 : w ≤ 16) (b4 : h ≤ 16) : ap_arr (ap_fu L i x) (ap_fu B i y) (ap_fu W i w) (ap_fu H i h) (upd a1 i (nI x)) (upd a2 i (nI y)) (upd a3 i (nI w)) (upd a4 i (nI h)) := by
  intro j hj
  by_cases e : j = i
  · rw [e, pk_us, pk_us, pk_us, pk_us, ap_ups, ap_ups, ap_ups, ap_ups]
    exact ⟨rfl, rfl, rfl, rfl, b1, b2, b3, b4⟩
  · rw [pk_un e, pk_un e, pk_un e, pk_un e, ap_upn e, ap_upn e, ap_upn e, ap_upn e]
    exact hA j hj
theorem ap_ct {x y w h u v : Nat} (hy : y < 32) (hw : w < 32) (hh : h < 32) : ap_c (ap_pk x y w h) u v ↔ (x ≤ u ∧ u < x + w ∧ y ≤ v ∧ v < y + h) := by
  unfold ap_c
  rw [ap_pkx hy hw hh, ap_pky hy hw hh, ap_pkw hy hw hh, ap_pkh hy hw hh]
theorem ap_p113 {post : Int32 → St2 → Prop} {c2 c4 : Int32} {a1 a2 a3 a4 a5 a6 a7 a8 a9 : Nat → Int32} {C R : Nat} {L B W H : Nat → Nat} {l : List Nat} {i w h n : Nat} {x1 x2 x5 : Int32} (ok : ap_ok C R L B W H l c2 a1 a2 a3 a4 a5 a6) (hi : i < 20) (hW : W i = 0) (hn : n ∈ l) (w1 : 1 ≤ w) (h1 : 1 ≤ h) (hw : w ≤ ap_w n) (hh : h ≤ ap_h n) (hx : (x5 = 0 ∧ x1 = nI w ∧ x2 = nI h) ∨ (¬ x5 = 0 ∧ x2 = nI w ∧ x1 = nI h))
    (H1 : ∀ x y w h l' c2 c4 a1 a2 a3 a4 a5 a6 a7, w ≠ 0 → ap_ok C R (ap_fu L i x) (ap_fu B i y) (ap_fu W i w) (ap_fu H i h) l' c2 a1 a2 a3 a4 a5 a6 → post (nI i) (nI C, nI R, c2, nI l'.length, c4, a1, a2, a3, a4, a5, a6, a7, a8, a9)) :
    wX_place_113 post x1 x2 (nI (256 * ap_y n + ap_x n)) x5 (nI i) (nI C) (nI R) c2 (nI l.length) c4 a1 a2 a3 a4 a5 a6 a7 a8 a9 := by
  obtain ⟨k1, k2, hA, hG, hrow, hhl, hr, hc⟩ := ok
  have g1 := hG.1
  have g2 := hG.2.1
  have hbd : ap_bd C R (ap_F C R L B W H) := ap_Fbd g1 g2
  have hm := ((hhl.2 n).mp hn).1
  have bb := ap_frb hbd hm
  have hf : ∀ u v, (ap_x n ≤ u ∧ u < ap_x n + w ∧ ap_y n ≤ v ∧ v < ap_y n + h) → ap_F C R L B W H u v := fun u v t => hm.2.2 u v ⟨t.1, by omega, t.2.2.1, by omega⟩
  have e4' : ∀ u v, ap_F C R (ap_fu L i (ap_x n)) (ap_fu B i (ap_y n)) (ap_fu W i w) (ap_fu H i h) u v ↔ ap_F C R L B W H u v ∧ ¬ (ap_x n ≤ u ∧ u < ap_x n + w ∧ ap_y n ≤ v ∧ v < ap_y n + h) := fun u v => ap_Fpl hi hW
  have t174 : ∀ z0, z0 = nI h → wX_place_174 post (nI i) z0 (nI i) (nI C) (nI R) c2 (nI l.length) c4 (upd a1 i (nI (ap_x n))) (upd a2 i (nI (ap_y n))) (upd a3 i (nI w)) a4 a5 a6 a7 a8 a9 := by
    intro z0 hz
    unfold wX_place_174
    refine ⟨pk_in i 20 hi, nm_r (e' := upd a4 i (nI h)) (by rw [nI_clamp (by omega), hz, ap_byte h (by omega)]) (nm_r (e' := nI (ap_cnt (ap_fu W i w) 20)) (by rw [hc, nI_1, ap_cup hW (by omega) 20 hi]) ?_)⟩
    refine ap_flip (F := ap_F C R L B W H) (G := ap_F C R (ap_fu L i (ap_x n)) (ap_fu B i (ap_y n)) (ap_fu W i w) (ap_fu H i h)) (x := ap_x n) (y := ap_y n) (w := w) (h := h) (R := R) hi pk_us pk_us pk_us pk_us (by omega) (by omega) g2 hrow (fun u v _ => ?_) (fun a ha => ?_)
    · rw [e4' u v]
      constructor
      · exact fun t => Or.inl t
      · intro t
        rcases t with t | t
        · exact t
        · exact absurd (hf u v t.2) t.1
    · refine ap_splitHoles (F := ap_F C R L B W H) (F' := ap_F C R (ap_fu L i (ap_x n)) (ap_fu B i (ap_y n)) (ap_fu W i w) (ap_fu H i h)) hbd (ap_Fbd g1 g2) hi pk_us pk_us pk_us pk_us w1 h1 (by omega) (by omega) (fun u v => ?_) hhl hr (fun l' c b b' q1 q2 => ?_)
      · rw [e4' u v, ap_ct (by omega) (by omega) (by omega)]
      · exact H1 (ap_x n) (ap_y n) w h l' _ c _ _ _ _ _ b b' (by omega) ⟨k1, k2, ap_arrP hA (by omega) (by omega) (by omega) (by omega), ap_geoP hG hi h1 (by omega) (by omega) hf, ha, q1, q2, rfl⟩
  have t156 : ∀ z0, z0 = nI w → wX_place_156 post x1 x2 x5 (nI i) z0 (nI i) (nI C) (nI R) c2 (nI l.length) c4 (upd a1 i (nI (ap_x n))) (upd a2 i (nI (ap_y n))) a3 a4 a5 a6 a7 a8 a9 := by
    intro z0 hz
    unfold wX_place_156
    refine ⟨pk_in i 20 hi, nm_r (e' := upd a3 i (nI w)) (by rw [nI_clamp (by omega), hz, ap_byte w (by omega)]) ?_⟩
    rcases hx with ⟨q1, q2, q3⟩ | ⟨q1, q2, q3⟩
    · exact br_t q1 (t174 _ q3)
    · exact br_f q1 (t174 _ q3)
  unfold wX_place_113
  refine ⟨pk_in i 20 hi, nm_r (e' := upd a1 i (nI (ap_x n))) ?_ ⟨pk_in i 20 hi, nm_r (e' := upd a2 i (nI (ap_y n))) ?_ ?_⟩⟩
  · rw [nI_clamp (by omega), pk_andN (m := 255) (by omega) 8 (by decide), show (256 * ap_y n + ap_x n) % 2 ^ 8 = ap_x n by omega, ap_byte _ (by omega)]
  · rw [nI_clamp (by omega), pk_shrN (by omega) _ 8 (by decide), show (256 * ap_y n + ap_x n) / 2 ^ 8 = ap_y n by omega, ap_byte _ (by omega)]
  · rcases hx with ⟨q1, q2, q3⟩ | ⟨q1, q2, q3⟩
    · exact br_t q1 (t156 _ q2)
    · exact br_f q1 (t156 _ q2)
theorem ap_p79 {post : Int32 → St2 → Prop} {c2 c4 : Int32} {a1 a2 a3 a4 a5 a6 a7 a8 a9 : Nat → Int32} {C R : Nat} {L B W H : Nat → Nat} {l : List Nat} {w h : Nat} {x1 x2 x4 x5 : Int32} (ok : ap_ok C R L B W H l c2 a1 a2 a3 a4 a5 a6) (hcn : ap_cnt W 20 < 20) (w1 : 1 ≤ w) (h1 : 1 ≤ h) (hx : (x5 = 0 ∧ x1 = nI w ∧ x2 = nI h) ∨ (¬ x5 = 0 ∧ x2 = nI w ∧ x1 = nI h)) (hg : x4 = -3 ∨ ∃ n, n ∈ l ∧ w ≤ ap_w n ∧ h ≤ ap_h n ∧ x4 = nI (256 * ap_y n + ap_x n))
    (H0 : post (-3) (nI C, nI R, c2, nI l.length, c4, a1, a2, a3, a4, a5, a6, a7, a8, a9))
    (H1 : ∀ i, i < 20 → W i = 0 → ∀ x y w h l' c2 c4 a1 a2 a3 a4 a5 a6 a7, w ≠ 0 → ap_ok C R (ap_fu L i x) (ap_fu B i y) (ap_fu W i w) (ap_fu H i h) l' c2 a1 a2 a3 a4 a5 a6 → post (nI i) (nI C, nI R, c2, nI l'.length, c4, a1, a2, a3, a4, a5, a6, a7, a8, a9)) :
    wX_place_79 post x1 x2 x4 x5 (nI C) (nI R) c2 (nI l.length) c4 a1 a2 a3 a4 a5 a6 a7 a8 a9 := by
  unfold wX_place_79
  rcases hg with hg | ⟨n, n1, n2, n3, n4⟩
  · rw [hg]
    exact br_f (by decide) H0
  · have hbd : ap_bd C R (ap_F C R L B W H) := ap_Fbd ok.2.2.2.1.1 ok.2.2.2.1.2.1
    have bb := ap_frb hbd ((ok.2.2.2.2.2.1.2 n).mp n1).1
    have g1 := hbd.1
    have g2 := hbd.2.1
    obtain ⟨j, j1, j2⟩ := ap_cz 20 hcn
    obtain ⟨i, ⟨i1, i2⟩, i3⟩ := pk_least (fun k => k < 20 ∧ W k = 0) ⟨j, j1, j2⟩
    rw [n4]
    have fin := ap_p113 ok i1 i2 n1 w1 h1 n2 n3 hx (H1 i i1 i2) (post := post) (c4 := c4) (a7 := a7) (a8 := a8) (a9 := a9)
    refine br_t (nI_pos' (by omega)) ?_
    refine pk_loop (σ := Unit) (fun f k _ => wX_place_90 post x1 x2 (nI (256 * ap_y n + ap_x n)) x5 (nI C) (nI R) c2 (nI l.length) c4 a1 a2 a3 a4 a5 a6 a7 a8 a9 f (nI k)) (fun _ _ => True) i 0 () (by omega) trivial ?_ ?_
    · intro f _ _
      obtain ⟨_, _, e3, _⟩ := ok.2.2.1 i i1
      refine pk_le 19 i (fun _ => fin) (fun _ => ⟨pk_in i 20 i1, ?_⟩)
      rw [nI_clamp (by omega), e3, i2]
      exact br_t rfl fin
    · intro f k _ hk _ hw
      obtain ⟨_, _, e3, _, _, _, b3, _⟩ := ok.2.2.1 k (by omega)
      refine pk_le 19 k (fun z => absurd z (by omega)) (fun _ => ⟨pk_in k 20 (by omega), ?_⟩)
      rw [nI_clamp (by omega), e3]
      exact pk_eq (W k) 0 (fun z => absurd ⟨by omega, z⟩ (i3 k hk)) (fun _ => nm_r (nI_1 k) (hw () trivial))
theorem ap_isSize {post : Int32 → Prop} {u : St2} {w h : Nat} (w1 : 1 ≤ w) (w2 : w ≤ 16) (h1 : 1 ≤ h) (h2 : h ≤ 16) (hp : post 1) : wpX_isSize post u (nI w) (nI h) := by
  obtain ⟨c0, c1, c2, c3, c4, a1, a2, a3, a4, a5, a6, a7, a8, a9⟩ := u
  unfold wpX_isSize
  exact pk_lt w 1 (fun z => absurd z (by omega)) (fun _ => pk_lt 16 w (fun z => absurd z (by omega)) (fun _ => pk_lt h 1 (fun z => absurd z (by omega)) (fun _ => pk_lt 16 h (fun z => absurd z (by omega)) (fun _ => hp))))
theorem ap_place {post : Int32 → St2 → Prop} {c2 c4 : Int32} {a1 a2 a3 a4 a5 a6 a7 a8 a9 : Nat → Int32} {C R : Nat} {L B W H : Nat → Nat} {l : List Nat} {w h : Nat} {p0 p1 p2 : Int32} (ok : ap_ok C R L B W H l c2 a1 a2 a3 a4 a5 a6) (e0 : p0 = nI w) (e1 : p1 = nI h) (w1 : 1 ≤ w) (w2 : w ≤ 16) (h1 : 1 ≤ h) (h2 : h ≤ 16)
    (H0 : ∀ r, r < 0 → post r (nI C, nI R, c2, nI l.length, c4, a1, a2, a3, a4, a5, a6, a7, a8, a9))
    (H1 : ∀ i, i < 20 → W i = 0 → ∀ x y w h l' c2 c4 a1 a2 a3 a4 a5 a6 a7, w ≠ 0 → ap_ok C R (ap_fu L i x) (ap_fu B i y) (ap_fu W i w) (ap_fu H i h) l' c2 a1 a2 a3 a4 a5 a6 → post (nI i) (nI C, nI R, c2, nI l'.length, c4, a1, a2, a3, a4, a5, a6, a7, a8, a9)) :
    wpX_place post (nI C, nI R, c2, nI l.length, c4, a1, a2, a3, a4, a5, a6, a7, a8, a9) p0 p1 p2 := by
  rw [e0, e1]
  have hbd : ap_bd C R (ap_F C R L B W H) := ap_Fbd ok.2.2.2.1.1 ok.2.2.2.1.2.1
  have hhl := ok.2.2.2.2.2.1
  have hr := ok.2.2.2.2.2.2.1
  have hc := ok.2.2.2.2.2.2.2
  have hl : l.length ≤ 256 := ap_256 hbd hhl.1 (fun n hn => (hhl.2 n).mp hn)
  have hb : ∀ n, n ∈ l → n < 1048576 := fun n hn => ap_frx hbd ((hhl.2 n).mp hn).1
  have cl := ap_cle (W := W) 20
  unfold wpX_place
  refine ap_isSize w1 w2 h1 h2 (br_f (by decide) (pk_lt (ap_cnt W 20) 20 (fun hcn => ?_) (fun _ => H0 _ (by decide)) hc))
  have A : ∀ x4, (x4 = -3 ∨ ∃ n, n ∈ l ∧ w ≤ ap_w n ∧ h ≤ ap_h n ∧ x4 = nI (256 * ap_y n + ap_x n)) → wX_place_79 post (nI w) (nI h) x4 0 (nI C) (nI R) c2 (nI l.length) c4 a1 a2 a3 a4 a5 a6 a7 a8 a9 := fun x4 hg => ap_p79 ok hcn w1 h1 (Or.inl ⟨rfl, rfl, rfl⟩) hg (H0 _ (by decide)) H1
  have A' : ∀ x4, (x4 = -3 ∨ ∃ n, n ∈ l ∧ h ≤ ap_w n ∧ w ≤ ap_h n ∧ x4 = nI (256 * ap_y n + ap_x n)) → wX_place_79 post (nI w) (nI h) x4 1 (nI C) (nI R) c2 (nI l.length) c4 a1 a2 a3 a4 a5 a6 a7 a8 a9 := fun x4 hg => ap_p79 ok hcn h1 w1 (Or.inr ⟨by decide, rfl, rfl⟩) hg (H0 _ (by decide)) H1
  have B2 : ∀ r4, (r4 = -3 ∨ ∃ n, n ∈ l ∧ w ≤ ap_w n ∧ h ≤ ap_h n ∧ r4 = nI (256 * ap_y n + ap_x n)) → ∀ r, (r = -3 ∨ ∃ n, n ∈ l ∧ h ≤ ap_w n ∧ w ≤ ap_h n ∧ r = nI (256 * ap_y n + ap_x n)) → (((r < 0 → (wX_place_67 post (nI w) (nI h) r4 r (nI C) (nI R) c2 (nI l.length) c4 a1 a2 a3 a4 a5 a6 a7 a8 a9)) ∧ (¬ r < 0 → (((r4 < 0 → (wX_place_63 post (nI w) (nI h) r4 r (nI C) (nI R) c2 (nI l.length) c4 a1 a2 a3 a4 a5 a6 a7 a8 a9)) ∧ (¬ r4 < 0 → (((r4 ≤ r → (wX_place_67 post (nI w) (nI h) r4 r (nI C) (nI R) c2 (nI l.length) c4 a1 a2 a3 a4 a5 a6 a7 a8 a9)) ∧ (¬ r4 ≤ r → (wX_place_63 post (nI w) (nI h) r4 r (nI C) (nI R) c2 (nI l.length) c4 a1 a2 a3 a4 a5 a6 a7 a8 a9)))))))))) := by
    intro r4 h4 r hr'
    have t67 : wX_place_67 post (nI w) (nI h) r4 r (nI C) (nI R) c2 (nI l.length) c4 a1 a2 a3 a4 a5 a6 a7 a8 a9 := by
      unfold wX_place_67 wX_place_68
      exact br_t rfl (A r4 h4)
    have t63 : wX_place_63 post (nI w) (nI h) r4 r (nI C) (nI R) c2 (nI l.length) c4 a1 a2 a3 a4 a5 a6 a7 a8 a9 := by
      unfold wX_place_63 wX_place_68
      exact br_f (by decide) (A' r hr')
    exact br_c (fun _ => t67) (fun _ => br_c (fun _ => t63) (fun _ => br_c (fun _ => t67) (fun _ => t63)))
  have B1 : ∀ r4, (r4 = -3 ∨ ∃ n, n ∈ l ∧ w ≤ ap_w n ∧ h ≤ ap_h n ∧ r4 = nI (256 * ap_y n + ap_x n)) → (((p2 = 0 → (wX_place_79 post (nI w) (nI h) r4 0 (nI C) (nI R) c2 (nI l.length) c4 a1 a2 a3 a4 a5 a6 a7 a8 a9)) ∧ (¬ p2 = 0 → (wpX_lowest (fun r => (((r < 0 → (wX_place_67 post (nI w) (nI h) r4 r (nI C) (nI R) c2 (nI l.length) c4 a1 a2 a3 a4 a5 a6 a7 a8 a9)) ∧ (¬ r < 0 → (((r4 < 0 → (wX_place_63 post (nI w) (nI h) r4 r (nI C) (nI R) c2 (nI l.length) c4 a1 a2 a3 a4 a5 a6 a7 a8 a9)) ∧ (¬ r4 < 0 → (((r4 ≤ r → (wX_place_67 post (nI w) (nI h) r4 r (nI C) (nI R) c2 (nI l.length) c4 a1 a2 a3 a4 a5 a6 a7 a8 a9)) ∧ (¬ r4 ≤ r → (wX_place_63 post (nI w) (nI h) r4 r (nI C) (nI R) c2 (nI l.length) c4 a1 a2 a3 a4 a5 a6 a7 a8 a9))))))))))) (nI C, nI R, c2, nI l.length, c4, a1, a2, a3, a4, a5, a6, a7, a8, a9) (nI h) (nI w))))) := by
    intro r4 h4
    exact br_c (fun _ => A r4 h4) (fun _ => ap_lowest h2 w2 hl hr hb (B2 r4 h4 _ (Or.inl rfl)) (fun n n1 n2 n3 => B2 r4 h4 _ (Or.inr ⟨n, n1, n2, n3, rfl⟩)))
  exact ap_lowest w2 h2 hl hr hb (B1 _ (Or.inl rfl)) (fun n n1 n2 n3 => B1 _ (Or.inr ⟨n, n1, n2, n3, rfl⟩))
end
section
/-! removing, clearing, making -/
theorem ap_cri {L B W H : Nat → Nat} {i u v : Nat} : ¬ ap_cell L B (ap_fu W i 0) H i u v := by
  unfold ap_cell
  rw [ap_ups]
  omega
theorem ap_crj {L B W H : Nat → Nat} {i j u v : Nat} (e : j ≠ i) : ap_cell L B (ap_fu W i 0) H j u v ↔ ap_cell L B W H j u v := by
  unfold ap_cell
  rw [ap_upn e]
theorem ap_Frm {C R : Nat} {L B W H : Nat → Nat} {i u v : Nat} (hG : ap_geo C R L B W H) (hi : i < 20) : ap_F C R L B (ap_fu W i 0) H u v ↔ ((ap_F C R L B W H u v ∧ ¬ (L i ≤ u ∧ u < L i + W i ∧ B i ≤ v ∧ v < B i + H i)) ∨ (¬ ap_F C R L B W H u v ∧ (L i ≤ u ∧ u < L i + W i ∧ B i ≤ v ∧ v < B i + H i))) := by
  obtain ⟨g1, g2, g3, g4⟩ := hG
  constructor
  · intro ⟨h1, h2, h3⟩
    by_cases hc : L i ≤ u ∧ u < L i + W i ∧ B i ≤ v ∧ v < B i + H i
    · exact Or.inr ⟨fun t => t.2.2 i hi hc, hc⟩
    · refine Or.inl ⟨⟨h1, h2, fun j hj hcj => ?_⟩, hc⟩
      by_cases e : j = i
      · rw [e] at hcj
        exact hc hcj
      · exact h3 j hj ((ap_crj e).mpr hcj)
  · intro h
    rcases h with ⟨⟨h1, h2, h3⟩, _⟩ | ⟨_, hc⟩
    · refine ⟨h1, h2, fun j hj hcj => ?_⟩
      by_cases e : j = i
      · rw [e] at hcj
        exact ap_cri hcj
      · exact h3 j hj ((ap_crj e).mp hcj)
    · have hc' : ap_cell L B W H i u v := hc
      obtain ⟨q1, q2, q3⟩ := g3 i hi (by omega)
      refine ⟨by omega, by omega, fun j hj hcj => ?_⟩
      by_cases e : j = i
      · rw [e] at hcj
        exact ap_cri hcj
      · exact e (g4 j i u v hj hi ((ap_crj e).mp hcj) hc')
theorem ap_geoR {C R : Nat} {L B W H : Nat → Nat} {i : Nat} (hG : ap_geo C R L B W H) : ap_geo C R L B (ap_fu W i 0) H := by
  obtain ⟨g1, g2, g3, g4⟩ := hG
  refine ⟨g1, g2, fun j hj hw => ?_, fun j k u v hj hk c1 c2 => ?_⟩
  · by_cases e : j = i
    · rw [e, ap_ups] at hw
      exact absurd rfl hw
    · rw [ap_upn e] at hw
      rw [ap_upn e]
      exact g3 j hj hw
  · by_cases e : j = i
    · rw [e] at c1
      exact absurd c1 ap_cri
    · by_cases e' : k = i
      · rw [e'] at c2
        exact absurd c2 ap_cri
      · exact g4 j k u v hj hk ((ap_crj e).mp c1) ((ap_crj e').mp c2)
theorem ap_crm {W : Nat → Nat} {i : Nat} (hi : i < 20) (hW : W i ≠ 0) : ap_cnt W 20 = ap_cnt (ap_fu W i 0) 20 + 1 := by
  have t := ap_cup (W := ap_fu W i 0) (i := i) (v := W i) ap_ups hW 20 hi
  rw [← t]
  refine ap_ceq 20 (fun j _ => ?_)
  by_cases e : j = i
  · rw [e, ap_ups]
  · rw [ap_upn e, ap_upn e]
theorem ap_remove {post : Int32 → St2 → Prop} {c2 c4 : Int32} {a1 a2 a3 a4 a5 a6 a7 a8 a9 : Nat → Int32} {C R : Nat} {L B W H : Nat → Nat} {l : List Nat} {i : Nat} {p : Int32} (ok : ap_ok C R L B W H l c2 a1 a2 a3 a4 a5 a6) (e : p = nI i) (hi : i < 2 ^ 31)
    (H0 : (20 ≤ i ∨ W i = 0) → post (-1) (nI C, nI R, c2, nI l.length, c4, a1, a2, a3, a4, a5, a6, a7, a8, a9))
    (H1 : i < 20 → W i ≠ 0 → ∀ l' c2 a3 a5 a6 a8 a9, ¬ c2 < 0 → ap_ok C R L B (ap_fu W i 0) H l' c2 a1 a2 a3 a4 a5 a6 → post c2 (nI C, nI R, c2, nI l'.length, c4, a1, a2, a3, a4, a5, a6, a7, a8, a9)) :
    wpX_remove post (nI C, nI R, c2, nI l.length, c4, a1, a2, a3, a4, a5, a6, a7, a8, a9) p := by
  rw [e]
  have hA := ok.2.2.1
  unfold wpX_remove
  refine ap_isUsed hA rfl hi (fun hi20 hW => br_f (by decide) ?_) (fun z => br_t rfl (H0 z))
  obtain ⟨k1, k2, _, hG, hrow, hhl, hr, hc⟩ := ok
  obtain ⟨e1, e2, e3, e4, b1, b2, b3, b4⟩ := hA i hi20
  obtain ⟨q1, q2, q3⟩ := hG.2.2.1 i hi20 hW
  have g1 := hG.1
  have g2 := hG.2.1
  refine ap_flip (F := ap_F C R L B W H) (G := ap_F C R L B (ap_fu W i 0) H) (R := R) hi20 e1 e2 e3 e4 (by omega) q3 g2 hrow (fun u v _ => ap_Frm hG hi20) (fun a ha => ?_)
  refine ⟨pk_in i 20 hi20, nm_r (e' := upd a3 i (nI 0)) (by rw [nI_clamp (by omega)]; rfl) (nm_r (e' := nI (ap_cnt (ap_fu W i 0) 20)) (by rw [hc, ap_crm hi20 hW]; exact nI_pred _) ?_)⟩
  refine ap_find (F := ap_F C R L B (ap_fu W i 0) H) (ap_Fbd g1 g2) ha (fun l' b b8 b9 m1 m2 => ?_)
  have cl := ap_cle (W := ap_fu W i 0) 20
  refine H1 hi20 hW l' _ _ _ b b8 b9 (nI_pos (by omega)) ⟨k1, k2, fun j hj => ?_, ap_geoR hG, ha, m1, m2, rfl⟩
  by_cases ej : j = i
  · rw [ej, pk_us, ap_ups]
    exact ⟨e1, e2, rfl, e4, b1, b2, by omega, b4⟩
  · rw [pk_un ej, ap_upn ej]
    exact hA j hj
theorem ap_Fcl {C R : Nat} {L B H : Nat → Nat} {u v : Nat} : ap_F C R L B (fun _ => 0) H u v ↔ u < C ∧ v < R := by
  constructor
  · exact fun h => ⟨h.1, h.2.1⟩
  · intro h
    refine ⟨h.1, h.2, fun j hj hc => ?_⟩
    obtain ⟨q1, q2, _⟩ := hc
    have q2 : u < L j + 0 := q2
    omega
theorem ap_mcl {C R : Nat} {L B H : Nat → Nat} {n : Nat} (c1 : 1 ≤ C) (c2 : C ≤ 16) (r1 : 1 ≤ R) (r2 : R ≤ 16) : n ∈ [ap_pk 0 0 C R] ↔ ap_mx (ap_F C R L B (fun _ => 0) H) n := by
  have hbd : ap_bd C R (ap_F C R L B (fun _ => 0) H) := ap_Fbd c2 r2
  have hf : ap_fr (ap_F C R L B (fun _ => 0) H) (ap_pk 0 0 C R) := ap_mkfr (by omega) (by omega) (by omega) c1 r1 (fun u v u1 u2 v1 v2 => ap_Fcl.mpr ⟨by omega, by omega⟩)
  rw [List.mem_singleton]
  constructor
  · intro e
    rw [e]
    refine ⟨hf, fun m hm hi => ?_⟩
    have bb := ap_frb hbd hm
    unfold ap_ins at hi
    rw [ap_pkx (by omega) (by omega) (by omega), ap_pky (by omega) (by omega) (by omega), ap_pkw (by omega) (by omega) (by omega), ap_pkh (by omega) (by omega) (by omega)] at hi
    apply ap_ext
    · rw [ap_pkx (by omega) (by omega) (by omega)]
      omega
    · rw [ap_pky (by omega) (by omega) (by omega)]
      omega
    · rw [ap_pkw (by omega) (by omega) (by omega)]
      omega
    · rw [ap_pkh (by omega) (by omega) (by omega)]
      omega
  · intro hm
    have bb := ap_frb hbd hm.1
    exact (hm.2 _ hf (ap_pki (by omega) (by omega) (by omega) (by omega) (by omega) (by omega) (by omega))).symm
theorem ap_clr {C R : Nat} {L B W H : Nat → Nat} {a1 a2 a3 a4 a6 s3 s5 : Nat → Int32} (c1 : 1 ≤ C) (c2 : C ≤ 16) (r1 : 1 ≤ R) (r2 : R ≤ 16) (hA : ap_arr L B W H a1 a2 a3 a4) (h3 : ∀ j, j < 20 → s3 j = 0) (h5 : ∀ v, v < R → s5 v = nI (2 ^ C - 1)) : ap_ok C R L B (fun _ => 0) H [ap_pk 0 0 C R] 0 a1 a2 s3 a4 s5 (upd a6 0 (nI (ap_pk 0 0 C R))) := by
  refine ⟨c1, r1, fun j hj => ?_, ⟨c2, r2, fun j hj hw => absurd rfl hw, fun j k u v hj hk q1 q2 => ?_⟩, fun v hv => ?_, ⟨List.nodup_cons.mpr ⟨List.not_mem_nil, List.nodup_nil⟩, fun n => ap_mcl c1 c2 r1 r2⟩, ap_repS (l := []) ap_rep0, rfl⟩
  · obtain ⟨e1, e2, e3, e4, b1, b2, b3, b4⟩ := hA j hj
    exact ⟨e1, e2, h3 j hj, e4, b1, b2, Nat.zero_le _, b4⟩
  · obtain ⟨p1, p2, _⟩ := q1
    have p2 : u < L j + 0 := p2
    omega
  · have p1 : 2 ^ C ≤ 2 ^ 16 := Nat.pow_le_pow_right (by omega) c2
    have p2 : 1 ≤ 2 ^ C := Nat.one_le_two_pow
    refine ⟨2 ^ C - 1, by omega, h5 v hv, fun u => ?_⟩
    rw [Nat.testBit_two_pow_sub_one, decide_eq_true_iff]
    show u < C ↔ ap_F C R L B (fun _ => 0) H u v
    rw [ap_Fcl]
    exact ⟨fun z => ⟨z, hv⟩, fun z => z.1⟩
theorem ap_clear {post : Int32 → St2 → Prop} {c2 c3 c4 : Int32} {a1 a2 a3 a4 a5 a6 a7 a8 a9 : Nat → Int32} {C R : Nat} {L B W H : Nat → Nat} (k1 : 1 ≤ C) (k2 : C ≤ 16) (r1 : 1 ≤ R) (r2 : R ≤ 16) (hA : ap_arr L B W H a1 a2 a3 a4)
    (HP : ∀ r l c2 a3 a5 a6, ap_ok C R L B (fun _ => 0) H l c2 a1 a2 a3 a4 a5 a6 → post r (nI C, nI R, c2, nI l.length, c4, a1, a2, a3, a4, a5, a6, a7, a8, a9)) : wpX_clear post (nI C, nI R, c2, c3, c4, a1, a2, a3, a4, a5, a6, a7, a8, a9) := by
  unfold wpX_clear
  refine pk_loop (fun n k (s : Nat → Int32) => wX_clear_7 post c2 (nI C) (nI R) c2 c3 c4 n (nI k) a1 a2 s a4 a5 a6 a7 a8 a9) (fun k s => ∀ j, j < k → s j = 0) 20 0 a3 (by omega) (fun j hj => absurd hj (Nat.not_lt_zero j)) ?_ ?_
  · intro n s3 h3
    refine pk_le 20 20 (fun _ => ?_) (fun z => absurd z (by omega))
    refine pk_loop (fun n k (s : Nat → Int32) => wX_clear_33 post c2 (nI C) (nI R) 0 c3 c4 n (nI k) a1 a2 s3 a4 s a6 a7 a8 a9) (fun k s => ∀ j, j < k → s j = nI (2 ^ C - 1)) R 0 a5 (by omega) (fun j hj => absurd hj (Nat.not_lt_zero j)) ?_ ?_
    · intro n s5 h5
      refine pk_le R R (fun _ => ap_pack 0 0 C R rfl rfl rfl rfl (by omega) (by omega) (by omega) (by omega) (nm_e ?_)) (fun z => absurd z (by omega))
      exact HP c2 [ap_pk 0 0 C R] 0 s3 s5 _ (ap_clr k1 k2 r1 r2 hA h3 h5)
    · intro n k s hk h5 hw
      refine pk_le R k (fun z => absurd z (by omega)) (fun _ => ⟨pk_in k 16 (by omega), nm_r (e' := upd s k (nI (2 ^ C - 1))) (by rw [nI_clamp (by omega), ap_sh1 k2]) (nm_r (nI_1 k) (hw _ (fun j hj => ?_)))⟩)
      by_cases e : j = k
      · rw [e, pk_us]
      · rw [pk_un e]
        exact h5 j (by omega)
  · intro n k s hk h3 hw
    refine pk_le 20 k (fun z => absurd z (by omega)) (fun _ => ⟨pk_in k 20 hk, nm_r (e' := upd s k 0) (by rw [nI_clamp (by omega)]) (nm_r (nI_1 k) (hw _ (fun j hj => ?_)))⟩)
    by_cases e : j = k
    · rw [e, pk_us]
    · rw [pk_un e]
      exact h3 j (by omega)
theorem ap_init {post : St2 → Prop} {u : St1} {C R : Nat} (k1 : 4 ≤ C) (k2 : C ≤ 16) (r1 : 4 ≤ R) (r2 : R ≤ 16)
    (HP : ∀ L B W H l {c2 c4 : Int32} {a1 a2 a3 a4 a5 a6 a7 a8 a9 : Nat → Int32}, ap_ok C R L B W H l c2 a1 a2 a3 a4 a5 a6 → post (nI C, nI R, c2, nI l.length, c4, a1, a2, a3, a4, a5, a6, a7, a8, a9)) : wpX_init post 9 1410 u (nI C) (nI R) := by
  obtain ⟨c0, c1, c2, c3, c4⟩ := u
  unfold wpX_init
  have hA : ap_arr (fun _ => 0) (fun _ => 0) (fun _ => 0) (fun _ => 0) (fun _ => 0) (fun _ => 0) (fun _ => 0) (fun _ => 0) := fun i _ => ⟨rfl, rfl, rfl, rfl, Nat.zero_le _, Nat.zero_le _, Nat.zero_le _, Nat.zero_le _⟩
  refine ⟨by omega, by omega, by omega, by omega, by omega, by omega, by omega, by omega, by omega, by omega, by omega, by omega, by omega, by omega, by omega, by omega, by omega, by omega, ?_⟩
  refine pk_le 4 C (fun _ => pk_le C 16 (fun _ => ?_) (fun z => absurd z (by omega))) (fun z => absurd z (by omega))
  unfold wX_init_100
  refine pk_le 4 R (fun _ => pk_le R 16 (fun _ => ?_) (fun z => absurd z (by omega))) (fun z => absurd z (by omega))
  unfold wX_init_125
  exact ap_clear (by omega) k2 (by omega) r2 hA (fun r l c2 a3 a5 a6 ok => HP _ _ _ _ l ok)
/-! the law's checks -/
theorem ap_holesW {post : Int32 → Prop} {c0 c1 c2 c3 c4 : Int32} {a1 a2 a3 a4 a5 a6 a7 a8 a9 : Nat → Int32} (h : post c3) : wpX_holes post (c0, c1, c2, c3, c4, a1, a2, a3, a4, a5, a6, a7, a8, a9) := h
theorem ap_nm1 {n : Nat} (h : n < 2 ^ 31) : ¬ nI n = -1 := by
  intro e
  have t := nI_pos' h
  rw [e] at t
  exact absurd t (by decide)
theorem ap_aba (a b : Int32) : a + (b - a) = b := by grind
theorem ap_h118 {post : Int32 → St2 → Prop} {c0 c1 c2 c4 : Int32} {a1 a2 a3 a4 a5 a6 a7 a8 a9 : Nat → Int32} {l l' : List Nat} (hl : l.length ≤ 256) (hr : ap_rep l a6) (hb : ∀ n, n ∈ l → n < 1048576) (d : l.Nodup) (d' : l'.Nodup) (hm : ∀ n, n ∈ l ↔ n ∈ l') (hp : post 1 (c0, c1, c2, nI l.length, c4, a1, a2, a3, a4, a5, a6, a7, a8, a9)) : wL_holds_118 post (nI l'.length) (nI (ap_lg l')) (nI (ap_fit l' 17)) c0 c1 c2 (nI l.length) c4 a1 a2 a3 a4 a5 a6 a7 a8 a9 := by
  have e : l.length = l'.length := ((List.perm_ext_iff_of_nodup d d').mpr hm).length_eq
  unfold wL_holds_118
  refine ap_holesW (br_t (by rw [e]) (ap_largest hl hr hb (br_t (by rw [ap_lgE hm]) (ap_fitting hl hr hb (br_t (by rw [ap_fitE hm 17]) hp)))))
theorem ap_Feq {C R : Nat} {L B W H : Nat → Nat} {i x y w h : Nat} (hW : W i = 0) : ap_F C R (ap_fu L i x) (ap_fu B i y) (ap_fu (ap_fu W i w) i 0) (ap_fu H i h) = ap_F C R L B W H := by
  have e : ∀ j u v, ap_cell (ap_fu L i x) (ap_fu B i y) (ap_fu (ap_fu W i w) i 0) (ap_fu H i h) j u v ↔ ap_cell L B W H j u v := by
    intro j u v
    by_cases e : j = i
    · rw [e]
      refine ⟨fun z => absurd z ap_cri, fun z => ?_⟩
      obtain ⟨z1, z2, _⟩ := z
      omega
    · rw [ap_crj e, ap_cuj e]
  funext u v
  apply propext
  constructor
  · intro ⟨h1, h2, h3⟩
    exact ⟨h1, h2, fun j hj hc => h3 j hj ((e j u v).mpr hc)⟩
  · intro ⟨h1, h2, h3⟩
    exact ⟨h1, h2, fun j hj hc => h3 j hj ((e j u v).mp hc)⟩
theorem ap_lists {C R : Nat} {L B W H : Nat → Nat} {l : List Nat} {c2 : Int32} {a1 a2 a3 a4 a5 a6 : Nat → Int32} (ok : ap_ok C R L B W H l c2 a1 a2 a3 a4 a5 a6) : l.length ≤ 256 ∧ ap_rep l a6 ∧ (∀ n, n ∈ l → n < 1048576) ∧ l.Nodup ∧ ∀ n, n ∈ l ↔ ap_mx (ap_F C R L B W H) n := by
  have hbd : ap_bd C R (ap_F C R L B W H) := ap_Fbd ok.2.2.2.1.1 ok.2.2.2.1.2.1
  have hhl := ok.2.2.2.2.2.1
  exact ⟨ap_256 hbd hhl.1 (fun n hn => (hhl.2 n).mp hn), ok.2.2.2.2.2.2.1, fun n hn => ap_frx hbd ((hhl.2 n).mp hn).1, hhl.1, hhl.2⟩
theorem ap_holdsL {post : Int32 → St2 → Prop} {c2 c4 : Int32} {a1 a2 a3 a4 a5 a6 a7 a8 a9 : Nat → Int32} {C R : Nat} {L B W H : Nat → Nat} {l : List Nat} {w h : Nat} {p1 p2 p3 p4 : Int32} (ok : ap_ok C R L B W H l c2 a1 a2 a3 a4 a5 a6) (e1 : p1 = nI (C * R)) (e2 : p2 = nI w) (e3 : p3 = nI h) (w1 : 1 ≤ w) (w2 : w ≤ 16) (h1 : 1 ≤ h) (h2 : h ≤ 16)
    (HP : ∀ L B W H l {c2 c4 : Int32} {a1 a2 a3 a4 a5 a6 a7 a8 a9 : Nat → Int32}, ap_ok C R L B W H l c2 a1 a2 a3 a4 a5 a6 → post 1 (nI C, nI R, c2, nI l.length, c4, a1, a2, a3, a4, a5, a6, a7, a8, a9)) : wpL_holds post (nI C, nI R, c2, nI l.length, c4, a1, a2, a3, a4, a5, a6, a7, a8, a9) p1 p2 p3 p4 := by
  rw [e1, e2, e3]
  unfold wpL_holds
  have hA := ok.2.2.1
  have hG := ok.2.2.2.1
  obtain ⟨q1, q2, q3, q4, q5⟩ := ap_lists ok
  refine pk_loop (fun n k (s : Int32) => wL_holds_6 post (nI (C * R)) (nI w) (nI h) p4 (nI C) (nI R) c2 (nI l.length) c4 a1 a2 a3 a4 a5 a6 a7 a8 a9 n s (nI k)) (fun k s => s = nI (ap_sum (fun i => W i * H i) k)) 20 0 0 (by omega) rfl ?_ ?_
  · intro n s hs
    rw [hs]
    refine pk_le 20 20 (fun _ => ap_freeCells hA (br_t (ap_aba _ _) (ap_holesW (ap_largest q1 q2 q3 (ap_fitting q1 q2 q3 ?_))))) (fun z => absurd z (by omega))
    refine ap_place ok rfl rfl w1 w2 h1 h2 (fun r hr => br_t hr (ap_h118 q1 q2 q3 q4 q4 (fun _ => Iff.rfl) (HP L B W H l ok))) (fun i i1 i2 x y w' h' l' c2' c4' b1 b2 b3 b4 b5 b6 b7 hw' ok' => br_f (nI_pos (by omega)) ?_)
    refine ap_remove ok' rfl (by omega) (fun z => ?_) (fun _ _ l'' c2'' d3 d5 d6 d8 d9 hc ok'' => ?_)
    · rw [ap_ups] at z
      omega
    · obtain ⟨m1, m2, m3, m4, m5⟩ := ap_lists ok''
      rw [ap_Feq i2] at m5
      refine br_t (Int32.not_lt.mp hc) (ap_h118 m1 m2 m3 m4 q4 (fun n => (m5 n).trans (q5 n).symm) (HP _ _ _ _ l'' ok''))
  · intro n k s hk hs hw
    refine pk_le 20 k (fun z => absurd z (by omega)) (fun _ => ?_)
    obtain ⟨_, _, _, _, b1, b2, b3, b4⟩ := hA k hk
    by_cases e : W k = 0
    · refine ap_lookN hA rfl (by omega) (Or.inr e) (br_t rfl (nm_r (nI_1 k) (hw s ?_)))
      rw [hs]
      show _ = nI (ap_sum (fun i => W i * H i) k + W k * H k)
      rw [e, Nat.zero_mul, Nat.add_zero]
    · refine ap_look0 hA rfl hk e (br_f (ap_nm1 (by omega)) (ap_look2 hA rfl hk e (ap_look3 hA rfl hk e (nm_e (ap_whole hA hG hk e (br_f (by decide) (nm_r (nI_1 k) (hw _ ?_))))))))
      rw [hs, pk_mul, nI_add]
      rfl
end
section
/-! the law's own loop -/
theorem ap_1m (x : Int32) {m : Int32} (k : Nat) (hk : 2 ^ k ≤ 8) (hm : m.toBitVec.toNat = 2 ^ k - 1) : ∃ w, 1 ≤ w ∧ w ≤ 16 ∧ 1 + (x &&& m) = nI w := by
  obtain ⟨j, hj, e⟩ := pk_andE x k hm
  refine ⟨1 + j, by omega, by omega, ?_⟩
  rw [e]
  exact nI_add 1 j
theorem ap_dim (r : Int32) : ∃ C, 4 ≤ C ∧ C ≤ 16 ∧ 4 + ((r &&& 255) - (r &&& 255) / 13 * 13) = nI C := by
  obtain ⟨j, hj, e⟩ := pk_andE r (m := 255) 8 (by decide)
  have t : nI j - nI j / 13 * 13 = nI (j % 13) := pk_rem (a := j) (d := 13) (by omega) (by omega) (by omega)
  refine ⟨4 + j % 13, by omega, by omega, ?_⟩
  rw [e, t]
  exact nI_add 4 _
theorem ap_cnd {L i : Nat} (hL : L ≤ 260) (hi : i ≤ 300) : (Int32.ofNat L - 4 < nI i) ↔ L < i + 4 := by
  show (nI L - nI 4 < nI i) ↔ L < i + 4
  rw [Int32.lt_iff_toInt_lt, pk_sub_toInt (by omega) (by omega), nI_toInt (by omega)]
  omega
theorem ap_cellW {post : Int32 → Prop} {L : Nat} {xs : Nat → Int32} {p : Int32} (k : Nat) (hk : k < 2 ^ 31) (hL : L ≤ 260) (e : p = nI k) (h : ∀ r, post r) : wpL_cell post L xs () p := by
  unfold wpL_cell
  exact pk_le L k (fun _ => h 0) (fun z => ⟨pk_in k L z e, h _⟩) rfl e
theorem ap_205 {post : Int32 → Prop} {L : Nat} {xs : Nat → Int32} {J : Int32 → Int32 → Int32 → Int32 → Int32 → Int32 → (Nat → Int32) → (Nat → Int32) → (Nat → Int32) → (Nat → Int32) → (Nat → Int32) → (Nat → Int32) → (Nat → Int32) → (Nat → Int32) → (Nat → Int32) → Prop} {c2 c4 : Int32} {a1 a2 a3 a4 a5 a6 a7 a8 a9 : Nat → Int32} {C R w : Nat} {Lf Bf Wf Hf : Nat → Nat} {l : List Nat} {x4 x7 : Int32} {kc ks : Nat} (ok : ap_ok C R Lf Bf Wf Hf l c2 a1 a2 a3 a4 a5 a6) (w1 : 1 ≤ w) (w2 : w ≤ 16)
    (HJ : ∀ Lf Bf Wf Hf l {c2 c4 : Int32} {a1 a2 a3 a4 a5 a6 a7 a8 a9 : Nat → Int32}, ap_ok C R Lf Bf Wf Hf l c2 a1 a2 a3 a4 a5 a6 → J (x4 + 4) (nI C) (nI R) c2 (nI l.length) c4 a1 a2 a3 a4 a5 a6 a7 a8 a9) : wL_law_205 post L xs J (nI C) (nI R) x4 (nI w) x7 kc ks (nI C) (nI R) c2 (nI l.length) c4 a1 a2 a3 a4 a5 a6 a7 a8 a9 := by
  have t231 : ∀ z0, wL_law_231 post L xs J (nI C) (nI R) x4 z0 (nI w) (1 + (x7 &&& 7)) (nI C * nI R) kc ks (nI C) (nI R) c2 (nI l.length) c4 a1 a2 a3 a4 a5 a6 a7 a8 a9 := by
    intro z0
    unfold wL_law_231
    obtain ⟨v, v1, v2, ev⟩ := ap_1m x7 (m := 7) 3 (by decide) (by decide)
    exact ap_holdsL ok (pk_mul _ _) ev rfl v1 v2 w1 w2 (fun Lf Bf Wf Hf l _ _ _ _ _ _ _ _ _ _ _ ok' => br_f (by decide) (nm_e (HJ Lf Bf Wf Hf l ok')))
  unfold wL_law_205
  exact br_c (fun _ => t231 0) (fun _ => t231 1)
theorem ap_lawL {L : Nat} {xs : Nat → Int32} (hL : L ≤ 260) {C R kc ks : Nat} : ∀ (f i : Nat) (Lf Bf Wf Hf : Nat → Nat) (l : List Nat) {c2 c4 : Int32} {a1 a2 a3 a4 a5 a6 a7 a8 a9 : Nat → Int32}, ap_ok C R Lf Bf Wf Hf l c2 a1 a2 a3 a4 a5 a6 → L + 3 < i + 4 * f → i ≤ L + 3 → wL_law_43 (fun r => r = 1) L xs (nI C) (nI R) kc ks f (nI i) (nI C) (nI R) c2 (nI l.length) c4 a1 a2 a3 a4 a5 a6 a7 a8 a9 := by
  intro f
  induction f with
  | zero => intro i Lf Bf Wf Hf l c2 c4 a1 a2 a3 a4 a5 a6 a7 a8 a9 _ h1 h2; omega
  | succ f ih =>
    intro i Lf Bf Wf Hf l c2 c4 a1 a2 a3 a4 a5 a6 a7 a8 a9 ok h1 h2
    by_cases z : L < i + 4
    · refine br_t ((ap_cnd hL (by omega)).mpr z) ?_
      exact ap_holdsL (w := 2) (h := 3) ok (pk_mul _ _) rfl rfl (by omega) (by omega) (by omega) (by omega) (fun Lf Bf Wf Hf l _ _ _ _ _ _ _ _ _ _ _ ok' => rfl)
    · obtain ⟨w, w1, w2, ew⟩ := ap_1m (xs (nI i + 1).toNatClampNeg) (m := 7) 3 (by decide) (by decide)
      obtain ⟨h, q1, q2, eh⟩ := ap_1m (xs (nI i + 2).toNatClampNeg) (m := 7) 3 (by decide) (by decide)
      refine br_f (fun t => z ((ap_cnd hL (by omega)).mp t)) ⟨pk_in (i + 1) L (by omega) (nI_add i 1), nm_r ew ⟨pk_in (i + 2) L (by omega) (nI_add i 2), nm_r eh ⟨pk_in (i + 3) L (by omega) (nI_add i 3), nm_e ⟨pk_in i L (by omega), nm_e ?_⟩⟩⟩⟩
      generalize xs (nI i + 3).toNatClampNeg = x7
      generalize xs (nI i).toNatClampNeg &&& 7 = k
      have T : ∀ (Lf Bf Wf Hf : Nat → Nat) (l : List Nat) {c2 c4 : Int32} {a1 a2 a3 a4 a5 a6 a7 a8 a9 : Nat → Int32}, ap_ok C R Lf Bf Wf Hf l c2 a1 a2 a3 a4 a5 a6 → wL_law_205 (fun r => r = 1) L xs (wL_law_43 (fun r => r = 1) L xs (nI C) (nI R) kc ks f) (nI C) (nI R) (nI i) (nI w) x7 kc ks (nI C) (nI R) c2 (nI l.length) c4 a1 a2 a3 a4 a5 a6 a7 a8 a9 := by
        intro Lf Bf Wf Hf l c2 c4 a1 a2 a3 a4 a5 a6 a7 a8 a9 ok
        refine ap_205 ok w1 w2 (fun Lf Bf Wf Hf l _ _ _ _ _ _ _ _ _ _ _ ok' => ?_)
        rw [show nI i + 4 = nI (i + 4) from nI_add i 4]
        exact ih (i + 4) Lf Bf Wf Hf l ok' (by omega) (by omega)
      have t201 : ∀ z0, wL_law_201 (fun r => r = 1) L xs (wL_law_43 (fun r => r = 1) L xs (nI C) (nI R) kc ks f) (nI C) (nI R) (nI i) (nI w) x7 z0 (nI h) (nI w) kc ks (nI C) (nI R) c2 (nI l.length) c4 a1 a2 a3 a4 a5 a6 a7 a8 a9 := by
        intro z0
        unfold wL_law_201
        exact ap_place ok rfl rfl w1 w2 q1 q2 (fun r _ => T _ _ _ _ _ ok) (fun j _ _ x y w h l' c2 c4 a1 a2 a3 a4 a5 a6 a7 _ ok' => T _ _ _ _ _ ok')
      have t177 : ∀ z0, wL_law_177 (fun r => r = 1) L xs (wL_law_43 (fun r => r = 1) L xs (nI C) (nI R) kc ks f) (nI C) (nI R) (nI i) (nI w) x7 z0 (1 + (nI h &&& 1)) (1 + (nI w &&& 3)) kc ks (nI C) (nI R) c2 (nI l.length) c4 a1 a2 a3 a4 a5 a6 a7 a8 a9 := by
        intro z0
        unfold wL_law_177
        obtain ⟨w', v1, v2, ev⟩ := ap_1m (nI w) (m := 3) 2 (by decide) (by decide)
        obtain ⟨h', u1, u2, eu⟩ := ap_1m (nI h) (m := 1) 1 (by decide) (by decide)
        exact ap_place ok ev eu v1 v2 u1 u2 (fun r _ => T _ _ _ _ _ ok) (fun j _ _ x y w h l' c2 c4 a1 a2 a3 a4 a5 a6 a7 _ ok' => T _ _ _ _ _ ok')
      have t124 : wL_law_124 (fun r => r = 1) L xs (wL_law_43 (fun r => r = 1) L xs (nI C) (nI R) kc ks f) (nI C) (nI R) (nI i) (nI w) x7 kc ks (nI C) (nI R) c2 (nI l.length) c4 a1 a2 a3 a4 a5 a6 a7 a8 a9 := by
        unfold wL_law_124
        obtain ⟨j, hj, ej⟩ := pk_andE x7 (m := 31) 5 (by decide)
        exact ap_remove ok ej (by omega) (fun _ => T _ _ _ _ _ ok) (fun _ _ l' c2 a3 a5 a6 a8 a9 _ ok' => T _ _ _ _ _ ok')
      have tcl := ap_clear (post := fun _ u => match u with | (c0, c1, c2, c3, c4, a1, a2, a3, a4, a5, a6, a7, a8, a9) => wL_law_205 (fun r => r = 1) L xs (wL_law_43 (fun r => r = 1) L xs (nI C) (nI R) kc ks f) (nI C) (nI R) (nI i) (nI w) x7 kc ks c0 c1 c2 c3 c4 a1 a2 a3 a4 a5 a6 a7 a8 a9) (c2 := c2) (c3 := nI l.length) (c4 := c4) (a5 := a5) (a6 := a6) (a7 := a7) (a8 := a8) (a9 := a9) ok.1 ok.2.2.2.1.1 ok.2.1 ok.2.2.2.1.2.1 ok.2.2.1 (fun r l c2 a3 a5 a6 ok' => T _ _ _ _ _ ok')
      exact br_c (fun _ => br_c (fun _ => t201 0) (fun _ => t201 1)) (fun _ => br_c (fun _ => br_c (fun _ => t201 0) (fun _ => t201 1)) (fun _ => br_c (fun _ => t124) (fun _ => br_c (fun _ => t124) (fun _ => br_c (fun _ => br_c (fun _ => tcl) (fun _ => T _ _ _ _ _ ok)) (fun _ => br_c (fun _ => br_c (fun _ => t177 0) (fun _ => t177 1)) (fun _ => trivial))))))
theorem i_vc (xs : Nat → Int32) (L : Nat) (hL : L ≤ 260) : wpL_law (fun r => r = 1) L xs := by
  unfold wpL_law
  refine ap_cellW 0 (by omega) hL rfl (fun r => ⟨by decide, ?_⟩)
  obtain ⟨C, c1, c2, eC⟩ := ap_dim r
  refine nm_r eC (ap_cellW 1 (by omega) hL rfl (fun r' => ⟨by decide, ?_⟩))
  obtain ⟨R, r1, r2, eR⟩ := ap_dim r'
  refine nm_r eR ⟨9, 1410, by omega, by omega, ?_⟩
  exact ap_init c1 c2 r1 r2 (fun Lf Bf Wf Hf l _ _ _ _ _ _ _ _ _ _ _ ok => ⟨L + 1, ap_lawL hL (L + 1) 2 Lf Bf Wf Hf l ok (by omega) (by omega)⟩)
end
