section
/-! pictures: pairs of a set as a list of (part, key, value) -/
abbrev ln_T : Type := Nat × Nat × Int32
def ln_up {α : Type} (L : Nat → α) (d : Nat) (x : α) : Nat → α := fun j => if j = d then x else L j
theorem ln_us {α : Type} (L : Nat → α) (d : Nat) (x : α) : ln_up L d x d = x := if_pos rfl
theorem ln_un {α : Type} {L : Nat → α} {d j : Nat} {x : α} (h : j ≠ d) : ln_up L d x j = L j := if_neg h
theorem ln_uu {α : Type} (L : Nat → α) (d : Nat) (x y : α) : ln_up (ln_up L d x) d y = ln_up L d y := by
  funext j
  by_cases h : j = d
  · rw [h, ln_us, ln_us]
  · rw [ln_un h, ln_un h, ln_un h]
theorem ln_ui {α : Type} (L : Nat → α) (d : Nat) : ln_up L d (L d) = L := by
  funext j
  by_cases h : j = d
  · rw [h, ln_us]
  · rw [ln_un h]
def ln_pic (a10 a11 a12 a13 : Nat → Int32) (L : Nat → List ln_T) : Prop :=
  ∀ d, d < 16 → a10 d = nI (L d).length ∧ (L d).length ≤ 48 ∧ ∀ i t, (L d)[i]? = some t → a11 (48 * d + i) = nI t.1 ∧ a12 (48 * d + i) = nI t.2.1 ∧ a13 (48 * d + i) = t.2.2 ∧ t.1 < 4 ∧ t.2.1 < 16
def ln_msk (a : Nat → Int32) (T : Nat → Nat) : Prop := ∀ d, d < 16 → a d = nI (T d) ∧ T d < 16
theorem ln_dnil {α : Type} {l : List α} {j : Nat} (h : l.drop j = []) : l.length ≤ j := List.drop_eq_nil_iff.mp h
theorem ln_dcons {α : Type} {l r : List α} {j : Nat} {t : α} (h : l.drop j = t :: r) : l[j]? = some t ∧ l.drop (j + 1) = r ∧ j < l.length := by
  have h1 : l[j]? = some t := by
    have h2 := congrArg (fun m : List α => m[0]?) h
    simpa using h2
  refine ⟨h1, ?_, (List.getElem?_eq_some_iff.mp h1).1⟩
  rw [← List.tail_drop, h]
  rfl
theorem ln_dget {α : Type} {l : List α} {j : Nat} {t : α} (h : l[j]? = some t) : l.drop j = t :: l.drop (j + 1) := by
  obtain ⟨hj, e⟩ := List.getElem?_eq_some_iff.mp h
  rw [List.drop_eq_getElem_cons hj, e]
theorem ln_cl {n : Nat} (h : n < 1000) : (nI n).toNatClampNeg = n := nI_clamp (by omega)
/-! bits of masks -/
theorem ln_bit : ∀ m, m < 16 → ∀ q, q < 4 → (((nI m >>> (nI q &&& 31)) &&& 1) = 0 ↔ m.testBit q = false) := by decide +kernel
theorem ln_cmN : ∀ t, t < 16 → ((15 : Int32) &&& (nI t ^^^ (-1))).toInt8.toInt32 = nI (15 - t) := by decide +kernel
theorem ln_needN : ∀ a, a < 16 → ∀ p, p < 16 → ∀ t, t < 16 → (nI a ||| (nI p &&& (nI t ^^^ (-1)))).toInt8.toInt32 = nI (a ||| (p &&& (15 - t))) := by decide +kernel
theorem ln_orN : ∀ a, a < 16 → ∀ p, p < 16 → (nI a ||| nI p).toInt8.toInt32 = nI (a ||| p) := by decide +kernel
theorem ln_loseN : ∀ t, t < 16 → ∀ q, q < 4 → (nI t &&& (((1 : Int32) <<< (nI q &&& 31)) ^^^ (-1))).toInt8.toInt32 = nI (t &&& (15 - 2 ^ q)) := by decide +kernel
theorem ln_byN : ∀ n, n < 128 → (nI n).toInt8.toInt32 = nI n := by decide +kernel
theorem ln_nrN {n : Nat} (h : n < 128) : vp_nar .byte (nI n) = nI n := by rw [vp_nar_byte, ln_byN n h]
theorem ln_and3 : ∀ n, n < 128 → nI n &&& 3 = nI (n % 4) := by decide +kernel
theorem ln_bcm : ∀ t, t < 16 → ∀ q, q < 4 → (15 - t).testBit q = !t.testBit q := by decide +kernel
theorem ln_bls : ∀ t, t < 16 → ∀ p, p < 4 → ∀ q, q < 4 → (t &&& (15 - 2 ^ p)).testBit q = (t.testBit q && !(q == p)) := by decide +kernel
theorem ln_b15 : ∀ q, q < 4 → (15 : Nat).testBit q = true := by decide +kernel
theorem ln_bext : ∀ a, a < 16 → ∀ b, b < 16 → (∀ q, q < 4 → a.testBit q = b.testBit q) → a = b := by decide +kernel
theorem ln_or16 : ∀ a, a < 16 → ∀ b, b < 16 → a ||| b < 16 := by decide +kernel
theorem ln_and16 : ∀ a, a < 16 → ∀ b, a &&& b < 16 := fun a h b => Nat.lt_of_le_of_lt Nat.and_le_left h
theorem ln_need16 : ∀ a, a < 16 → ∀ p, p < 16 → ∀ t, t < 16 → a ||| (p &&& (15 - t)) < 16 := fun a ha p hp t _ => ln_or16 a ha _ (ln_and16 p hp _)
theorem ln_bneed (a p t : Nat) (ht : t < 16) {q : Nat} (hq : q < 4) : (a ||| (p &&& (15 - t))).testBit q = (a.testBit q || (p.testBit q && !t.testBit q)) := by
  rw [Nat.testBit_or, Nat.testBit_and, ln_bcm t ht q hq]
theorem ln_full {t : Nat} (h : t < 16) (hb : ∀ q, q < 4 → t.testBit q = true) : t = 15 := ln_bext t h 15 (by decide) (fun q hq => by rw [hb q hq, ln_b15 q hq])
theorem ln_none {t : Nat} (h : t < 16) (hb : ∀ q, q < 4 → t.testBit q = false) : t = 0 := ln_bext t h 0 (by decide) (fun q hq => by rw [hb q hq, Nat.zero_testBit])
/-! the picture read -/
theorem ln_end {a10 a11 a12 a13 : Nat → Int32} {L : Nat → List ln_T} {x : Nat} (h : ln_pic a10 a11 a12 a13 L) (hx : x < 16) : (48 * nI x) + a10 (nI x).toNatClampNeg = nI (48 * x + (L x).length) := by
  rw [ln_cl (by omega), (h x hx).1, show (48 : Int32) = nI 48 from rfl, pk_mul, nI_add]
theorem ln_m48 (x : Nat) : (48 : Int32) * nI x = nI (48 * x) := pk_mul 48 x
theorem ln_hnil {a10 a11 a12 a13 : Nat → Int32} {L : Nat → List ln_T} {x j : Nat} (h : ln_pic a10 a11 a12 a13 L) (hx : x < 16) (hj : j ≤ 48) (hd : (L x).drop j = []) : (48 * nI x) + a10 (nI x).toNatClampNeg ≤ nI (48 * x + j) := by
  rw [ln_end h hx]
  have := ln_dnil hd
  exact nI_le (by omega) (by omega)
theorem ln_hcons {a10 a11 a12 a13 : Nat → Int32} {L : Nat → List ln_T} {x j : Nat} {t : ln_T} {r : List ln_T} (h : ln_pic a10 a11 a12 a13 L) (hx : x < 16) (hd : (L x).drop j = t :: r) :
    ¬ (48 * nI x) + a10 (nI x).toNatClampNeg ≤ nI (48 * x + j) ∧ j < 48 ∧ vp_in (nI (48 * x + j)) 768 ∧ a11 (nI (48 * x + j)).toNatClampNeg = nI t.1 ∧ a12 (nI (48 * x + j)).toNatClampNeg = nI t.2.1 ∧ a13 (nI (48 * x + j)).toNatClampNeg = t.2.2 ∧ t.1 < 4 ∧ t.2.1 < 16 ∧ (L x).drop (j + 1) = r := by
  obtain ⟨h1, h2, h3⟩ := ln_dcons hd
  obtain ⟨e1, e2, e3⟩ := h x hx
  obtain ⟨g1, g2, g3, g4, g5⟩ := e3 j t h1
  rw [ln_end h hx, ln_cl (show 48 * x + j < 1000 by omega)]
  exact ⟨nI_ge (by omega) (by omega), by omega, vp_in_nI (by omega) (by omega), g1, g2, g3, g4, g5, h2⟩
theorem ln_ad1 (a b : Nat) : nI (a + b) + 1 = nI (a + (b + 1)) := nI_1 (a + b)
theorem ln_picF {a10 a11 a12 a13 : Nat → Int32} {L : Nat → List ln_T} {d : Nat} (h : ln_pic a10 a11 a12 a13 L) : ln_pic (upd a10 d 0) a11 a12 a13 (ln_up L d []) := by
  intro x hx
  by_cases e : x = d
  · subst e
    rw [ln_us, pk_us]
    exact ⟨rfl, by decide, fun i t z => by simp at z⟩
  · rw [ln_un e, pk_un e]
    exact h x hx
theorem ln_picA {a10 a11 a12 a13 : Nat → Int32} {L : Nat → List ln_T} {d q k : Nat} {v : Int32} {l : List ln_T} (h : ln_pic a10 a11 a12 a13 (ln_up L d l)) (hd : d < 16) (hl : l.length < 48) (hq : q < 4) (hk : k < 16) :
    ln_pic (upd a10 d (nI (l.length + 1))) (upd a11 (48 * d + l.length) (nI q)) (upd a12 (48 * d + l.length) (nI k)) (upd a13 (48 * d + l.length) v) (ln_up L d (l ++ [(q, k, v)])) := by
  intro x hx
  obtain ⟨e1, e2, e3⟩ := h x hx
  by_cases e : x = d
  · subst e
    rw [ln_us] at e1 e2 e3
    rw [ln_us, pk_us]
    refine ⟨by rw [List.length_append]; rfl, by rw [List.length_append]; exact hl, fun i t z => ?_⟩
    by_cases hi : i < l.length
    · rw [List.getElem?_append_left hi] at z
      rw [pk_un (by omega), pk_un (by omega), pk_un (by omega)]
      exact e3 i t z
    · by_cases hi2 : i = l.length
      · subst hi2
        rw [List.getElem?_append_right (Nat.le_refl _), Nat.sub_self] at z
        have z2 : (q, k, v) = t := by simpa using z
        subst z2
        rw [pk_us, pk_us, pk_us]
        exact ⟨rfl, rfl, rfl, hq, hk⟩
      · have : i < (l ++ [(q, k, v)]).length := (List.getElem?_eq_some_iff.mp z).1
        rw [List.length_append] at this
        exact absurd this (by show ¬ i < l.length + 1; omega)
  · rw [ln_un e] at e1 e2 e3
    rw [ln_un e, pk_un e]
    refine ⟨e1, e2, fun i t z => ?_⟩
    have hi : i < (L x).length := (List.getElem?_eq_some_iff.mp z).1
    rw [pk_un (by omega), pk_un (by omega), pk_un (by omega)]
    exact e3 i t z
theorem ln_mskU {a : Nat → Int32} {T : Nat → Nat} {d m : Nat} (h : ln_msk a T) (hm : m < 16) : ln_msk (upd a d (nI m)) (ln_up T d m) := by
  intro x hx
  by_cases e : x = d
  · subst e
    rw [ln_us, pk_us]
    exact ⟨rfl, hm⟩
  · rw [ln_un e, pk_un e]
    exact h x hx
end
section
/-! small methods -/
section
variable (hc sc lv cl pk pv oc : Int32) (a1 a2 a3 a4 a5 a6 a7 a8 a9 a10 a11 a12 a13 a14 a15 a16 a17 a18 a19 a20 a21 a22 a23 a24 a25 : Nat → Int32)
theorem ln_isSet {post : Int32 → Prop} {d S : Nat} (hs : sc = nI S) (hS : S < 1000) (hd : d < 1000) (H1 : d < S → post 1) (H0 : S ≤ d → post 0) : wpX_isSet post (hc, sc, lv, cl, pk, pv, oc, a1, a2, a3, a4, a5, a6, a7, a8, a9, a10, a11, a12, a13, a14, a15, a16, a17, a18, a19, a20, a21, a22, a23, a24, a25) (nI d) :=
  br_f (nI_pos (by omega)) (pk_le S d (fun z => H0 z) (fun z => H1 z) (hx := hs))
def ln_two (k : Nat) : Bool := k == 5 || k == 7 || k == 9
def ln_wide (k : Nat) : Bool := decide (6 ≤ k) && decide (k ≤ 10)
def ln_stp (k : Nat) : Bool := k == 1 || k == 2 || k == 3 || k == 11
theorem ln_hasTwo {post : Int32 → Prop} {k : Nat} {x : Int32} (hx : x = nI k) (hk : k < 1000) (H1 : ln_two k = true → post 1) (H0 : ln_two k = false → post 0) : wpX_hasTwo post (hc, sc, lv, cl, pk, pv, oc, a1, a2, a3, a4, a5, a6, a7, a8, a9, a10, a11, a12, a13, a14, a15, a16, a17, a18, a19, a20, a21, a22, a23, a24, a25) x := by
  subst hx
  refine pk_eq k 5 (fun z => H1 (by rw [z]; rfl)) (fun z5 => pk_eq k 7 (fun z => H1 (by rw [z]; rfl)) (fun z7 => pk_eq k 9 (fun z => H1 (by rw [z]; rfl)) (fun z9 => H0 ?_)))
  simp [ln_two, z5, z7, z9]
theorem ln_isWide {post : Int32 → Prop} {k : Nat} {x : Int32} (hx : x = nI k) (hk : k < 1000) (H1 : ln_wide k = true → post 1) (H0 : ln_wide k = false → post 0) : wpX_isWide post (hc, sc, lv, cl, pk, pv, oc, a1, a2, a3, a4, a5, a6, a7, a8, a9, a10, a11, a12, a13, a14, a15, a16, a17, a18, a19, a20, a21, a22, a23, a24, a25) x := by
  subst hx
  refine pk_lt k 6 (fun z => H0 ?_) (fun z5 => pk_lt 10 k (fun z => H0 ?_) (fun z7 => H1 ?_))
  · simp [ln_wide]; omega
  · simp [ln_wide]; omega
  · simp [ln_wide]; omega
theorem ln_isStep {post : Int32 → Prop} {k : Nat} {x : Int32} (hx : x = nI k) (hk : k < 1000) (H1 : ln_stp k = true → post 1) (H0 : ln_stp k = false → post 0) : wpX_isStep post (hc, sc, lv, cl, pk, pv, oc, a1, a2, a3, a4, a5, a6, a7, a8, a9, a10, a11, a12, a13, a14, a15, a16, a17, a18, a19, a20, a21, a22, a23, a24, a25) x := by
  subst hx
  refine pk_eq k 1 (fun z => H1 (by rw [z]; rfl)) (fun z5 => pk_eq k 2 (fun z => H1 (by rw [z]; rfl)) (fun z7 => pk_eq k 3 (fun z => H1 (by rw [z]; rfl)) (fun z9 => pk_eq k 11 (fun z => H1 (by rw [z]; rfl)) (fun z11 => H0 ?_))))
  simp [ln_stp, z5, z7, z9, z11]
theorem ln_isPart {post : Int32 → Prop} {m q : Nat} {x y : Int32} (hx : x = nI m) (hy : y = nI q) (hm : m < 16) (hq : q < 4) (H1 : m.testBit q = true → post 1) (H0 : m.testBit q = false → post 0) : wpX_isPart post (hc, sc, lv, cl, pk, pv, oc, a1, a2, a3, a4, a5, a6, a7, a8, a9, a10, a11, a12, a13, a14, a15, a16, a17, a18, a19, a20, a21, a22, a23, a24, a25) x y := by
  subst hx hy
  exact br_c (fun z => H0 ((ln_bit m hm q hq).mp z)) (fun z => H1 (by
    cases h : m.testBit q with
    | true => rfl
    | false => exact absurd ((ln_bit m hm q hq).mpr h) z))
theorem ln_forget {post : St2 → Prop} {d : Nat} (hd : d < 16) (H : post (hc, sc, lv, cl, pk, pv, oc, a1, a2, a3, a4, a5, a6, a7, a8, a9, upd a10 d 0, a11, a12, a13, upd a14 d 0, a15, a16, a17, a18, a19, a20, a21, a22, a23, a24, a25)) : wpX_forget post (hc, sc, lv, cl, pk, pv, oc, a1, a2, a3, a4, a5, a6, a7, a8, a9, a10, a11, a12, a13, a14, a15, a16, a17, a18, a19, a20, a21, a22, a23, a24, a25) (nI d) := by
  have e : (nI d).toNatClampNeg = d := nI_clamp (by omega)
  unfold wpX_forget
  exact ⟨pk_in d 16 hd, nm_r (by rw [e]) ⟨pk_in d 16 hd, nm_r (by rw [e]) H⟩⟩
theorem ln_level {post : Int32 → St2 → Prop} {k : Nat} {x : Int32} (hx : x = nI k) (hk : k < 1000) (H1 : k ≤ 2 → post 1 (hc, sc, nI k, cl, pk, pv, oc, a1, a2, a3, a4, a5, a6, a7, a8, a9, a10, a11, a12, a13, a14, a15, a16, a17, a18, a19, a20, a21, a22, a23, a24, a25)) (H0 : 2 < k → post 0 (hc, sc, lv, cl, pk, pv, oc, a1, a2, a3, a4, a5, a6, a7, a8, a9, a10, a11, a12, a13, a14, a15, a16, a17, a18, a19, a20, a21, a22, a23, a24, a25)) : wpX_level post (hc, sc, lv, cl, pk, pv, oc, a1, a2, a3, a4, a5, a6, a7, a8, a9, a10, a11, a12, a13, a14, a15, a16, a17, a18, a19, a20, a21, a22, a23, a24, a25) x := by
  subst hx
  exact br_f (nI_pos (by omega)) (pk_le k 2 (fun z => H1 z) (fun z => H0 z))
theorem ln_addPair {post : Int32 → St2 → Prop} {L : Nat → List ln_T} {l : List ln_T} {d q k : Nat} {x y v : Int32} (hp : ln_pic a10 a11 a12 a13 (ln_up L d l)) (hd : d < 16) (hx : x = nI q) (hy : y = nI k) (hq : q < 4) (hk : k < 16)
    (H1 : l.length < 48 → ∀ a10 a11 a12 a13 : Nat → Int32, ln_pic a10 a11 a12 a13 (ln_up L d (l ++ [(q, k, v)])) → post 1 (hc, sc, lv, cl, pk, pv, oc, a1, a2, a3, a4, a5, a6, a7, a8, a9, a10, a11, a12, a13, a14, a15, a16, a17, a18, a19, a20, a21, a22, a23, a24, a25))
    (H0 : l.length = 48 → post 0 (hc, sc, lv, cl, pk, pv, oc, a1, a2, a3, a4, a5, a6, a7, a8, a9, a10, a11, a12, a13, a14, a15, a16, a17, a18, a19, a20, a21, a22, a23, a24, a25)) : wpX_addPair post (hc, sc, lv, cl, pk, pv, oc, a1, a2, a3, a4, a5, a6, a7, a8, a9, a10, a11, a12, a13, a14, a15, a16, a17, a18, a19, a20, a21, a22, a23, a24, a25) (nI d) x y v := by
  subst hx hy
  have e : (nI d).toNatClampNeg = d := nI_clamp (by omega)
  obtain ⟨e1, e2, e3⟩ := hp d hd
  rw [ln_us] at e1 e2 e3
  unfold wpX_addPair
  refine ⟨pk_in d 16 hd, pk_lt l.length 48 (fun z => ⟨pk_in d 16 hd, nm_r (e' := nI (48 * d + l.length)) ?_ ⟨pk_in (48 * d + l.length) 768 (by omega), nm_e ⟨pk_in (48 * d + l.length) 768 (by omega), nm_e ⟨pk_in (48 * d + l.length) 768 (by omega), nm_e ⟨pk_in d 16 hd, pk_in d 16 hd, nm_e ?_⟩⟩⟩⟩⟩) (fun z => H0 (by omega)) (hx := by rw [e, e1])⟩
  · rw [e, e1, ln_m48, nI_add]
  · rw [e, e1, nI_1, ln_byN _ (by omega), ln_byN q (by omega), ln_byN k (by omega), nI_clamp (show 48 * d + l.length < 2 ^ 31 by omega)]
    exact H1 z _ _ _ _ (ln_picA hp hd z hq hk)
theorem ln_need {post : St2 → Prop} {N T : Nat → Nat} {x p : Nat} {y z : Int32} (hy : y = nI x) (hz : z = nI p) (hx : x < 16) (hp : p < 16) (hT : ln_msk a14 T) (hN : ln_msk a17 N)
    (H : ∀ a17 a18 : Nat → Int32, ln_msk a17 (ln_up N x (N x ||| (p &&& (15 - T x)))) → post (hc, sc, lv, cl, pk, pv, oc, a1, a2, a3, a4, a5, a6, a7, a8, a9, a10, a11, a12, a13, a14, a15, a16, a17, a18, a19, a20, a21, a22, a23, a24, a25)) : wpX_need post (hc, sc, lv, cl, pk, pv, oc, a1, a2, a3, a4, a5, a6, a7, a8, a9, a10, a11, a12, a13, a14, a15, a16, a17, a18, a19, a20, a21, a22, a23, a24, a25) y z := by
  subst hy hz
  have e : (nI x).toNatClampNeg = x := nI_clamp (by omega)
  obtain ⟨t1, t2⟩ := hT x hx
  obtain ⟨n1, n2⟩ := hN x hx
  unfold wpX_need
  refine ⟨pk_in x 16 hx, pk_in x 16 hx, pk_in x 16 hx, nm_e ⟨pk_in x 16 hx, pk_in x 16 hx, nm_e ?_⟩⟩
  refine H _ _ ?_
  rw [e, t1, n1, ln_needN _ n2 _ hp _ t2]
  exact ln_mskU hN (ln_need16 _ n2 _ hp _ t2)
theorem ln_keep1 {post : Int32 → St2 → Prop} {d S : Nat} (hs : sc = nI S) (hS : S ≤ 16) (hd : d < S) (H : post 1 (hc, sc, lv, cl, pk, pv, oc, a1, a2, a3, a4, a5, a6, a7, a8, a9, a10, a11, a12, a13, a14, upd a15 d 1, a16, a17, a18, a19, a20, a21, a22, a23, a24, a25)) : wpX_keep post (hc, sc, lv, cl, pk, pv, oc, a1, a2, a3, a4, a5, a6, a7, a8, a9, a10, a11, a12, a13, a14, a15, a16, a17, a18, a19, a20, a21, a22, a23, a24, a25) (nI d) 1 := by
  have e : (nI d).toNatClampNeg = d := nI_clamp (by omega)
  unfold wpX_keep
  exact ln_isSet hc sc lv cl pk pv oc a1 a2 a3 a4 a5 a6 a7 a8 a9 a10 a11 a12 a13 a14 a15 a16 a17 a18 a19 a20 a21 a22 a23 a24 a25 hs (by omega) (by omega) (fun _ => br_f (by decide) ⟨pk_in d 16 (by omega), nm_r (by rw [e]; rfl) (br_f (by decide) H)⟩) (fun z => absurd z (by omega))
theorem ln_keep0 {post : Int32 → St2 → Prop} {d S : Nat} (hs : sc = nI S) (hS : S ≤ 16) (hd : d < S) (H : post 1 (hc, sc, lv, cl, pk, pv, oc, a1, a2, a3, a4, a5, a6, a7, a8, a9, upd a10 d 0, a11, a12, a13, upd a14 d 0, upd a15 d 0, a16, a17, a18, a19, a20, a21, a22, a23, a24, a25)) : wpX_keep post (hc, sc, lv, cl, pk, pv, oc, a1, a2, a3, a4, a5, a6, a7, a8, a9, a10, a11, a12, a13, a14, a15, a16, a17, a18, a19, a20, a21, a22, a23, a24, a25) (nI d) 0 := by
  have e : (nI d).toNatClampNeg = d := nI_clamp (by omega)
  unfold wpX_keep
  refine ln_isSet hc sc lv cl pk pv oc a1 a2 a3 a4 a5 a6 a7 a8 a9 a10 a11 a12 a13 a14 a15 a16 a17 a18 a19 a20 a21 a22 a23 a24 a25 hs (by omega) (by omega) (fun _ => br_f (by decide) ⟨pk_in d 16 (by omega), nm_r (e' := upd a15 d 0) (by rw [e]; rfl) (br_t rfl ?_)⟩) (fun z => absurd z (by omega))
  exact ln_forget hc sc lv cl pk pv oc a1 a2 a3 a4 a5 a6 a7 a8 a9 a10 a11 a12 a13 a14 (upd a15 d 0) a16 a17 a18 a19 a20 a21 a22 a23 a24 a25 (by omega) H
theorem ln_keepN {post : Int32 → St2 → Prop} {d S : Nat} {x : Int32} (hs : sc = nI S) (hS : S ≤ 16) (hd : S ≤ d) (hd2 : d < 1000) (H : post 0 (hc, sc, lv, cl, pk, pv, oc, a1, a2, a3, a4, a5, a6, a7, a8, a9, a10, a11, a12, a13, a14, a15, a16, a17, a18, a19, a20, a21, a22, a23, a24, a25)) : wpX_keep post (hc, sc, lv, cl, pk, pv, oc, a1, a2, a3, a4, a5, a6, a7, a8, a9, a10, a11, a12, a13, a14, a15, a16, a17, a18, a19, a20, a21, a22, a23, a24, a25) (nI d) x := by
  unfold wpX_keep
  exact ln_isSet hc sc lv cl pk pv oc a1 a2 a3 a4 a5 a6 a7 a8 a9 a10 a11 a12 a13 a14 a15 a16 a17 a18 a19 a20 a21 a22 a23 a24 a25 hs (by omega) (by omega) (fun z => absurd z (by omega)) (fun _ => br_t rfl H)
theorem ln_drop {post : Int32 → St2 → Prop} {S : Nat} (hs : sc = nI (S + 1)) (hS : S < 16) (H : post (nI S) (hc, nI S, lv, cl, pk, pv, oc, a1, a2, a3, a4, a5, a6, a7, a8, a9, upd a10 S 0, a11, a12, a13, upd a14 S 0, a15, a16, a17, a18, a19, a20, a21, a22, a23, a24, a25)) : wpX_drop post (hc, sc, lv, cl, pk, pv, oc, a1, a2, a3, a4, a5, a6, a7, a8, a9, a10, a11, a12, a13, a14, a15, a16, a17, a18, a19, a20, a21, a22, a23, a24, a25) := by
  unfold wpX_drop
  refine br_f (by rw [hs]; exact nI_ne0 (by omega) (by omega)) (nm_r (e' := nI S) (by rw [hs, nI_pred]) ?_)
  exact ln_forget hc (nI S) lv cl pk pv oc a1 a2 a3 a4 a5 a6 a7 a8 a9 a10 a11 a12 a13 a14 a15 a16 a17 a18 a19 a20 a21 a22 a23 a24 a25 hS H
theorem ln_row {post : Int32 → St2 → Prop} {h k : Nat} {x v : Int32} (hh : hc = nI h) (h24 : h < 24) (hx : x = nI k) (hk : k < 16) (H : post (nI (h + 1)) (nI (h + 1), sc, lv, cl, pk, pv, oc, upd a1 h (nI k), upd a2 h v, a3, a4, a5, a6, a7, a8, a9, a10, a11, a12, a13, a14, a15, a16, a17, a18, a19, a20, a21, a22, a23, a24, a25)) : wpX_row post (hc, sc, lv, cl, pk, pv, oc, a1, a2, a3, a4, a5, a6, a7, a8, a9, a10, a11, a12, a13, a14, a15, a16, a17, a18, a19, a20, a21, a22, a23, a24, a25) x v := by
  subst hx hh
  have e : (nI h).toNatClampNeg = h := nI_clamp (by omega)
  unfold wpX_row
  exact pk_lt h 24 (fun _ => br_f (nI_pos (by omega)) (pk_le k 15 (fun _ => ⟨pk_in h 24 h24, nm_r (by rw [e, ln_byN k (by omega)]) ⟨pk_in h 24 h24, nm_r (by rw [e]) (nm_r (nI_1 h) H)⟩⟩) (fun z => absurd z (by omega)))) (fun z => absurd z (by omega))
theorem ln_rowF {post : Int32 → St2 → Prop} {x v : Int32} (hh : hc = nI 24) (H : post (-2) (hc, sc, lv, cl, pk, pv, oc, a1, a2, a3, a4, a5, a6, a7, a8, a9, a10, a11, a12, a13, a14, a15, a16, a17, a18, a19, a20, a21, a22, a23, a24, a25)) : wpX_row post (hc, sc, lv, cl, pk, pv, oc, a1, a2, a3, a4, a5, a6, a7, a8, a9, a10, a11, a12, a13, a14, a15, a16, a17, a18, a19, a20, a21, a22, a23, a24, a25) x v := by
  unfold wpX_row
  exact br_f (by rw [hh]; decide) H
/-! derive -/
theorem ln_take13 {post : St2 → Prop} {c : Nat} (hh : hc = nI c) (hc24 : c ≤ 24) : ∀ (r f i : Nat) (a8 a9 : Nat → Int32), i + r = c → r < f → (∀ j, j < c → vp_nar .byte (a1 j) = a1 j) → (∀ j, j < i → a8 j = a1 j ∧ a9 j = a2 j) →
    (∀ a8 a9 : Nat → Int32, (∀ j, j < c → a8 j = a1 j ∧ a9 j = a2 j) → post (0, sc, lv, cl, pk, pv, oc, a1, a2, a3, a4, a5, a6, a7, a8, a9, a10, a11, a12, a13, a14, a15, a16, a17, a18, a19, a20, a21, a22, a23, a24, a25)) → wX_takeHand_13 post (nI 0) hc sc lv cl pk pv oc f (nI i) a1 a2 a3 a4 a5 a6 a7 a8 a9 a10 a11 a12 a13 a14 a15 a16 a17 a18 a19 a20 a21 a22 a23 a24 a25 := by
  intro r
  induction r with
  | zero =>
    intro f i a8 a9 hi hf hb hj H
    obtain ⟨f, rfl⟩ : ∃ g, f = g + 1 := ⟨f - 1, by omega⟩
    exact pk_le c i (fun _ => H a8 a9 (fun j z => hj j (by omega))) (fun z => absurd z (by omega)) (hx := hh)
  | succ r ih =>
    intro f i a8 a9 hi hf hb hj H
    obtain ⟨f, rfl⟩ : ∃ g, f = g + 1 := ⟨f - 1, by omega⟩
    have e : (24 * nI 0) + nI i = nI i := by rw [show (24 : Int32) = nI 24 from rfl, pk_mul, nI_add, Nat.mul_zero, Nat.zero_add]
    have e2 : (nI i).toNatClampNeg = i := nI_clamp (by omega)
    refine pk_le c i (fun z => absurd z (by omega)) (fun z => ⟨pk_in i 24 (by omega), ?_, nm_e ⟨pk_in i 24 (by omega), ?_, nm_e (nm_r (nI_1 i) ?_)⟩⟩) (hx := hh)
    · rw [e]; exact pk_in i 384 (by omega)
    · rw [e]; exact pk_in i 384 (by omega)
    · rw [e, e2, hb i (by omega)]
      refine ih f (i + 1) _ _ (by omega) (by omega) hb (fun j z => ?_) H
      by_cases h : j = i
      · rw [h, pk_us, pk_us]; exact ⟨rfl, rfl⟩
      · rw [pk_un h, pk_un h]; exact hj j (by omega)
theorem ln_derive97 {post : Int32 → St2 → Prop} {x1 x2 x3 x4 : Int32} {S : Nat} (hs : sc = nI S) (hS : S < 16) (h1 : ¬ x1 = 0)
    (H : post (nI S) (hc, nI (S + 1), lv, cl, pk, pv, oc, a1, a2, upd a3 S x1.toInt8.toInt32, upd a4 S x2.toInt8.toInt32, upd a5 S x3, upd a6 S x4, a7, a8, a9, upd a10 S 0, a11, a12, a13, upd a14 S 0, upd a15 S 0, upd a16 S 0, a17, a18, a19, a20, a21, a22, a23, a24, a25)) : wX_derive_97 post x1 x2 x3 x4 hc sc lv cl pk pv oc a1 a2 a3 a4 a5 a6 a7 a8 a9 a10 a11 a12 a13 a14 a15 a16 a17 a18 a19 a20 a21 a22 a23 a24 a25 := by
  subst hs
  have e : (nI S).toNatClampNeg = S := nI_clamp (by omega)
  unfold wX_derive_97
  refine nm_r (nI_1 S) ⟨pk_in S 16 hS, nm_r (congrArg (fun k => upd a3 k _) e) ⟨pk_in S 16 hS, nm_r (congrArg (fun k => upd a4 k _) e) ⟨pk_in S 16 hS, nm_r (congrArg (fun k => upd a5 k _) e) ⟨pk_in S 16 hS, nm_r (congrArg (fun k => upd a6 k _) e) ?_⟩⟩⟩⟩
  refine ln_forget hc (nI (S + 1)) lv cl pk pv oc a1 a2 (upd a3 S x1.toInt8.toInt32) (upd a4 S x2.toInt8.toInt32) (upd a5 S x3) (upd a6 S x4) a7 a8 a9 a10 a11 a12 a13 a14 a15 a16 a17 a18 a19 a20 a21 a22 a23 a24 a25 hS ?_
  exact ⟨pk_in S 16 hS, nm_r (congrArg (fun k => upd a15 k _) e) ⟨pk_in S 16 hS, nm_r (congrArg (fun k => upd a16 k _) e) (br_f h1 H)⟩⟩
theorem ln_derive {post : Int32 → St2 → Prop} {k x S : Nat} {a b : Int32} (hs : sc = nI S) (hS : S < 16) (hk0 : 1 ≤ k) (hk : k ≤ 11) (hx : x < S) (h2 : ln_two k = true → ∃ y, y < S ∧ a = nI y) (h4 : k = 4 ∨ k = 6 → ∃ y, y ≤ 3 ∧ a = nI y) (h10 : k = 10 → ∃ y, 1 ≤ y ∧ y ≤ 8 ∧ a = nI y)
    (H : post (nI S) (hc, nI (S + 1), lv, cl, pk, pv, oc, a1, a2, upd a3 S (nI k), upd a4 S (nI x), upd a5 S a, upd a6 S b, a7, a8, a9, upd a10 S 0, a11, a12, a13, upd a14 S 0, upd a15 S 0, upd a16 S 0, a17, a18, a19, a20, a21, a22, a23, a24, a25)) : wpX_derive post (hc, sc, lv, cl, pk, pv, oc, a1, a2, a3, a4, a5, a6, a7, a8, a9, a10, a11, a12, a13, a14, a15, a16, a17, a18, a19, a20, a21, a22, a23, a24, a25) (nI k) (nI x) a b := by
  have G : wX_derive_97 post (nI k) (nI x) a b hc sc lv cl pk pv oc a1 a2 a3 a4 a5 a6 a7 a8 a9 a10 a11 a12 a13 a14 a15 a16 a17 a18 a19 a20 a21 a22 a23 a24 a25 := by
    refine ln_derive97 hc sc lv cl pk pv oc a1 a2 a3 a4 a5 a6 a7 a8 a9 a10 a11 a12 a13 a14 a15 a16 a17 a18 a19 a20 a21 a22 a23 a24 a25 hs hS (by rw [← nI_0, nI_eq (by omega) (by omega)]; omega) ?_
    rw [ln_byN k (by omega), ln_byN x (by omega)]
    exact H
  have G78 : wX_derive_78 post (nI k) (nI x) a b hc sc lv cl pk pv oc a1 a2 a3 a4 a5 a6 a7 a8 a9 a10 a11 a12 a13 a14 a15 a16 a17 a18 a19 a20 a21 a22 a23 a24 a25 := by
    unfold wX_derive_78
    refine pk_eq k 10 (fun z => ?_) (fun _ => G)
    obtain ⟨y, y1, y2, rfl⟩ := h10 z
    exact pk_lt y 1 (fun z => absurd z (by omega)) (fun _ => pk_le y 8 (fun _ => G) (fun z => absurd z (by omega)))
  have G67 : (k = 4 ∨ k = 6) → wX_derive_67 post (nI k) (nI x) a b hc sc lv cl pk pv oc a1 a2 a3 a4 a5 a6 a7 a8 a9 a10 a11 a12 a13 a14 a15 a16 a17 a18 a19 a20 a21 a22 a23 a24 a25 := by
    intro z
    obtain ⟨y, y1, rfl⟩ := h4 z
    unfold wX_derive_67
    exact pk_lt y 0 (fun z => absurd z (by omega)) (fun _ => pk_le y 3 (fun _ => G78) (fun z => absurd z (by omega)))
  have G56 : wX_derive_56 post (nI k) (nI x) a b hc sc lv cl pk pv oc a1 a2 a3 a4 a5 a6 a7 a8 a9 a10 a11 a12 a13 a14 a15 a16 a17 a18 a19 a20 a21 a22 a23 a24 a25 := by
    unfold wX_derive_56
    exact pk_eq k 4 (fun z => G67 (Or.inl z)) (fun _ => pk_eq k 6 (fun z => G67 (Or.inr z)) (fun _ => G78))
  unfold wpX_derive
  refine pk_lt S 16 (fun _ => br_f (nI_pos (by omega)) (pk_le k 11 (fun _ => pk_eq k 0 (fun z => absurd z (by omega)) (fun _ => ?_)) (fun z => absurd z (by omega)))) (fun z => absurd z (by omega)) (hx := hs)
  refine ln_isSet hc sc lv cl pk pv oc a1 a2 a3 a4 a5 a6 a7 a8 a9 a10 a11 a12 a13 a14 a15 a16 a17 a18 a19 a20 a21 a22 a23 a24 a25 hs (by omega) (by omega) (fun _ => br_f (by decide) ?_) (fun z => absurd z (by omega))
  unfold wX_derive_38
  refine ln_hasTwo hc sc lv cl pk pv oc a1 a2 a3 a4 a5 a6 a7 a8 a9 a10 a11 a12 a13 a14 a15 a16 a17 a18 a19 a20 a21 a22 a23 a24 a25 rfl (by omega) (fun z => br_f (by decide) ?_) (fun z => br_t rfl G56)
  obtain ⟨y, y1, rfl⟩ := h2 z
  exact ln_isSet hc sc lv cl pk pv oc a1 a2 a3 a4 a5 a6 a7 a8 a9 a10 a11 a12 a13 a14 a15 a16 a17 a18 a19 a20 a21 a22 a23 a24 a25 hs (by omega) (by omega) (fun _ => br_f (by decide) G56) (fun z => absurd z (by omega))
theorem ln_derive0 {post : Int32 → St2 → Prop} {c : Nat} (hs : sc = nI 0) (hh : hc = nI c) (hc24 : c ≤ 24) (hb : ∀ j, j < c → vp_nar .byte (a1 j) = a1 j)
    (H : ∀ a8 a9 : Nat → Int32, (∀ j, j < c → a8 j = a1 j ∧ a9 j = a2 j) → post (nI 0) (0, nI 1, lv, cl, pk, pv, oc, a1, a2, upd a3 0 (nI 0), upd a4 0 (nI 0), upd a5 0 0, upd a6 0 0, upd a7 0 (nI c), a8, a9, upd a10 0 0, a11, a12, a13, upd a14 0 0, upd a15 0 0, upd a16 0 0, a17, a18, a19, a20, a21, a22, a23, a24, a25)) : wpX_derive post (hc, sc, lv, cl, pk, pv, oc, a1, a2, a3, a4, a5, a6, a7, a8, a9, a10, a11, a12, a13, a14, a15, a16, a17, a18, a19, a20, a21, a22, a23, a24, a25) 0 0 0 0 := by
  subst hs
  have e : (nI 0).toNatClampNeg = 0 := nI_clamp (by omega)
  unfold wpX_derive
  refine pk_lt 0 16 (fun _ => br_f (by decide) (br_t (by decide) (br_t rfl ?_))) (fun z => absurd z (by omega))
  unfold wX_derive_38
  refine ln_hasTwo hc (nI 0) lv cl pk pv oc a1 a2 a3 a4 a5 a6 a7 a8 a9 a10 a11 a12 a13 a14 a15 a16 a17 a18 a19 a20 a21 a22 a23 a24 a25 (k := 0) rfl (by omega) (fun z => absurd z (by decide)) (fun _ => br_t rfl ?_)
  unfold wX_derive_56
  refine br_f (by decide) (br_f (by decide) ?_)
  unfold wX_derive_78
  refine br_f (by decide) ?_
  unfold wX_derive_97
  refine nm_r (e' := nI 1) rfl ⟨pk_in 0 16 (by decide), nm_r (e' := upd a3 0 (nI 0)) (by rw [e]; rfl) ⟨pk_in 0 16 (by decide), nm_r (e' := upd a4 0 (nI 0)) (by rw [e]; rfl) ⟨pk_in 0 16 (by decide), nm_r (e' := upd a5 0 0) (by rw [e]) ⟨pk_in 0 16 (by decide), nm_r (e' := upd a6 0 0) (by rw [e]) ?_⟩⟩⟩⟩
  refine ln_forget hc (nI 1) lv cl pk pv oc a1 a2 (upd a3 0 (nI 0)) (upd a4 0 (nI 0)) (upd a5 0 0) (upd a6 0 0) a7 a8 a9 a10 a11 a12 a13 a14 a15 a16 a17 a18 a19 a20 a21 a22 a23 a24 a25 (d := 0) (by decide) ?_
  refine ⟨pk_in 0 16 (by decide), nm_r (e' := upd a15 0 0) (by rw [e]) ⟨pk_in 0 16 (by decide), nm_r (e' := upd a16 0 0) (by rw [e]) (br_t rfl ?_)⟩⟩
  unfold wpX_takeHand
  refine ⟨pk_in 0 16 (by decide), nm_r (e' := upd a7 0 (nI c)) (by rw [e, hh, ln_byN c (by omega)]) ⟨25, ?_⟩⟩
  exact ln_take13 hc (nI 1) lv cl pk pv oc a1 a2 (upd a3 0 (nI 0)) (upd a4 0 (nI 0)) (upd a5 0 0) (upd a6 0 0) (upd a7 0 (nI c)) (upd a10 0 0) a11 a12 a13 (upd a14 0 0) (upd a15 0 0) (upd a16 0 0) a17 a18 a19 a20 a21 a22 a23 a24 a25 hh hc24 c 25 0 a8 a9 (by omega) (by omega) hb (fun j z => absurd z (by omega)) H
theorem ln_deriveF {post : Int32 → St2 → Prop} {p0 p1 p2 p3 : Int32} (hs : sc = nI 16) (H : post (-2) (hc, sc, lv, cl, pk, pv, oc, a1, a2, a3, a4, a5, a6, a7, a8, a9, a10, a11, a12, a13, a14, a15, a16, a17, a18, a19, a20, a21, a22, a23, a24, a25)) : wpX_derive post (hc, sc, lv, cl, pk, pv, oc, a1, a2, a3, a4, a5, a6, a7, a8, a9, a10, a11, a12, a13, a14, a15, a16, a17, a18, a19, a20, a21, a22, a23, a24, a25) p0 p1 p2 p3 := by
  unfold wpX_derive
  exact br_f (by rw [hs]; decide) H
end
end
section
/-! the plan; findNeeded, isPassedOver -/
abbrev ln_PE : Type := Nat × Nat × Int32 × Int32
def ln_pl (a3 a4 a5 a6 : Nat → Int32) (P : Nat → ln_PE) (S : Nat) : Prop := ∀ d, d < S → a3 d = nI (P d).1 ∧ a4 d = nI (P d).2.1 ∧ a5 d = (P d).2.2.1 ∧ a6 d = (P d).2.2.2
def ln_ya (P : Nat → ln_PE) (d : Nat) : Nat := (P d).2.2.1.toNatClampNeg
def ln_wf (P : Nat → ln_PE) (S : Nat) : Prop := S ≤ 16 ∧ 0 < S ∧ (P 0).1 = 0 ∧ ∀ d, d < S → (P d).1 ≤ 11 ∧ (P d).1 ≠ 3 ∧ (d ≠ 0 → (P d).1 ≠ 0 ∧ (P d).2.1 < d) ∧ (ln_two (P d).1 = true → ln_ya P d < d ∧ (P d).2.2.1 = nI (ln_ya P d)) ∧ (ln_stp (P d).1 = true → (P d).2.1 = 0)
def ln_src (P : Nat → ln_PE) (i x : Nat) : Prop := x = (P i).2.1 ∨ (ln_two (P i).1 = true ∧ x = ln_ya P i)
def ln_upb (P : Nat → ln_PE) (N : Nat → Nat) (d : Nat) : Prop := ∀ j, j < 16 → N j ≠ 0 → j = d ∨ ∃ i, i ≤ d ∧ N i ≠ 0 ∧ (P i).1 ≠ 0 ∧ ln_src P i j
theorem ln_nz {m : Nat} (h : m < 16) (h0 : m ≠ 0) : ∃ q, q < 4 ∧ m.testBit q = true := by
  apply Classical.byContradiction
  intro hn
  refine h0 (ln_none h (fun q hq => ?_))
  cases hb : m.testBit q with
  | false => rfl
  | true => exact absurd ⟨q, hq, hb⟩ hn
theorem ln_bnz {m q : Nat} (h : m.testBit q = true) : m ≠ 0 := by
  intro h0
  rw [h0, Nat.zero_testBit] at h
  exact absurd h (by decide)
def ln_cls (P : Nat → ln_PE) (T N : Nat → Nat) (d c : Nat) : Prop :=
  ln_upb P N d ∧
  N d = 15 - T d ∧ (∀ i, d < i → i < 16 → N i = 0) ∧ (∀ i q, i < 16 → q < 4 → (N i).testBit q = true → (T i).testBit q = false) ∧
  (∀ i, c ≤ i → i ≤ d → N i ≠ 0 → (P i).1 ≠ 0 → ∀ x, ln_src P i x → ∀ q, q < 4 → (ln_wide (P i).1 = true ∨ (N i).testBit q = true) → (T x).testBit q = true ∨ (N x).testBit q = true)
theorem ln_nb {N T : Nat → Nat} {x p : Nat} (hT : T x < 16) (j : Nat) {q : Nat} (hq : q < 4) : ((ln_up N x (N x ||| (p &&& (15 - T x)))) j).testBit q = true ↔ (N j).testBit q = true ∨ (j = x ∧ p.testBit q = true ∧ (T j).testBit q = false) := by
  by_cases e : j = x
  · subst e
    rw [ln_us, ln_bneed _ _ _ hT hq]
    cases (N j).testBit q <;> cases p.testBit q <;> cases (T j).testBit q <;> simp
  · rw [ln_un e]
    simp [e]
theorem ln_twost {k : Nat} (h : ln_two k = true) : ln_stp k = false := by
  simp only [ln_two, Bool.or_eq_true, beq_iff_eq] at h
  rcases h with (h | h) | h <;> subst h <;> rfl
section
variable (hc sc lv cl pk pv oc : Int32) (a1 a2 a3 a4 a5 a6 a7 a8 a9 a10 a11 a12 a13 a14 a15 a16 a17 a18 a19 a20 a21 a22 a23 a24 a25 : Nat → Int32)
theorem ln_find97 {post : St2 → Prop} {J : Int32 → Int32 → Int32 → Int32 → Int32 → Int32 → Int32 → Int32 → (Nat → Int32) → (Nat → Int32) → (Nat → Int32) → (Nat → Int32) → (Nat → Int32) → (Nat → Int32) → (Nat → Int32) → (Nat → Int32) → (Nat → Int32) → (Nat → Int32) → (Nat → Int32) → (Nat → Int32) → (Nat → Int32) → (Nat → Int32) → (Nat → Int32) → (Nat → Int32) → (Nat → Int32) → (Nat → Int32) → (Nat → Int32) → (Nat → Int32) → (Nat → Int32) → (Nat → Int32) → (Nat → Int32) → (Nat → Int32) → (Nat → Int32) → Prop}
    {P : Nat → ln_PE} {S : Nat} {T N : Nat → Nat} {i p : Nat} {z : Int32} (hz : z = nI p) (hpl : ln_pl a3 a4 a5 a6 P S) (hwf : ln_wf P S) (hi : i < S) (hi0 : i ≠ 0) (hp : p < 16) (hT : ln_msk a14 T) (hN : ln_msk a17 N)
    (H : ∀ (N' : Nat → Nat) (a17 a18 : Nat → Int32), ln_msk a17 N' → (∀ j, i ≤ j → N' j = N j) → (∀ j q, j < 16 → q < 4 → ((N' j).testBit q = true ↔ (N j).testBit q = true ∨ (ln_src P i j ∧ p.testBit q = true ∧ (T j).testBit q = false))) → J (nI i + (-1)) hc sc lv cl pk pv oc a1 a2 a3 a4 a5 a6 a7 a8 a9 a10 a11 a12 a13 a14 a15 a16 a17 a18 a19 a20 a21 a22 a23 a24 a25) :
    wX_findNeeded_97 post J (nI i) z hc sc lv cl pk pv oc a1 a2 a3 a4 a5 a6 a7 a8 a9 a10 a11 a12 a13 a14 a15 a16 a17 a18 a19 a20 a21 a22 a23 a24 a25 := by
  obtain ⟨w1, w2, w3, w4⟩ := hwf
  obtain ⟨k1, k2, k3, k4, k5⟩ := w4 i hi
  obtain ⟨p1, p2, p3, p4⟩ := hpl i hi
  have hx := (k3 hi0).2
  have e : (nI i).toNatClampNeg = i := nI_clamp (by omega)
  unfold wX_findNeeded_97
  refine ⟨pk_in i 16 (by omega), ?_⟩
  refine ln_need hc sc lv cl pk pv oc a1 a2 a3 a4 a5 a6 a7 a8 a9 a10 a11 a12 a13 a14 a15 a16 a17 a18 a19 a20 a21 a22 a23 a24 a25 (x := (P i).2.1) (by rw [e]; exact p2) hz (by omega) hp hT hN (fun a17 a18 hN1 => ?_)
  refine ⟨pk_in i 16 (by omega), ?_⟩
  refine ln_hasTwo hc sc lv cl pk pv oc a1 a2 a3 a4 a5 a6 a7 a8 a9 a10 a11 a12 a13 a14 a15 a16 a17 a18 a19 a20 a21 a22 a23 a24 a25 (k := (P i).1) (by rw [e]; exact p1) (by omega) (fun w => br_f (by decide) ⟨pk_in i 16 (by omega), ?_⟩) (fun w => br_t rfl (nm_e ?_))
  · obtain ⟨y1, y2⟩ := k4 w
    refine ln_need hc sc lv cl pk pv oc a1 a2 a3 a4 a5 a6 a7 a8 a9 a10 a11 a12 a13 a14 a15 a16 a17 a18 a19 a20 a21 a22 a23 a24 a25 (x := ln_ya P i) (by rw [e, p3]; exact y2) hz (by omega) hp hT hN1 (fun a17 a18 hN2 => nm_e ?_)
    refine H _ a17 a18 hN2 (fun j hj => by rw [ln_un (by omega), ln_un (by omega)]) (fun j q hj hq => ?_)
    rw [ln_nb (hT _ (by omega)).2 j hq, ln_nb (hT _ (by omega)).2 j hq]
    unfold ln_src
    rw [w]
    simp only [true_and]
    constructor
    · rintro ((h | ⟨h1, h2⟩) | ⟨h1, h2⟩)
      · exact Or.inl h
      · exact Or.inr ⟨Or.inl h1, h2⟩
      · exact Or.inr ⟨Or.inr h1, h2⟩
    · rintro (h | ⟨h1 | h1, h2⟩)
      · exact Or.inl (Or.inl h)
      · exact Or.inl (Or.inr ⟨h1, h2⟩)
      · exact Or.inr ⟨h1, h2⟩
  · refine H _ a17 a18 hN1 (fun j hj => by rw [ln_un (by omega)]) (fun j q hj hq => ?_)
    rw [ln_nb (hT _ (by omega)).2 j hq]
    unfold ln_src
    rw [w]
    simp
theorem ln_find48 {post : St2 → Prop} {P : Nat → ln_PE} {S d : Nat} {T : Nat → Nat} (hpl : ln_pl a3 a4 a5 a6 P S) (hwf : ln_wf P S) (hd : d < S) (hT : ln_msk a14 T)
    (H : ∀ (N : Nat → Nat) (a17 a18 : Nat → Int32), ln_msk a17 N → ln_cls P T N d 0 → post (hc, sc, lv, cl, pk, pv, oc, a1, a2, a3, a4, a5, a6, a7, a8, a9, a10, a11, a12, a13, a14, a15, a16, a17, a18, a19, a20, a21, a22, a23, a24, a25)) :
    ∀ (c f : Nat) (N : Nat → Nat) (a17 a18 : Nat → Int32), c ≤ d + 1 → c < f → ln_msk a17 N → ln_cls P T N d c → wX_findNeeded_48 post f (nI c + (-1)) hc sc lv cl pk pv oc a1 a2 a3 a4 a5 a6 a7 a8 a9 a10 a11 a12 a13 a14 a15 a16 a17 a18 a19 a20 a21 a22 a23 a24 a25 := by
  have hwf' := hwf
  obtain ⟨w1, w2, w3, w4⟩ := hwf
  intro c
  induction c with
  | zero =>
    intro f N a17 a18 hcd hf hN hcl
    obtain ⟨f, rfl⟩ : ∃ g, f = g + 1 := ⟨f - 1, by omega⟩
    exact br_t (by decide) (H N a17 a18 hN hcl)
  | succ i ih =>
    intro f N a17 a18 hcd hf hN hcl
    obtain ⟨f, rfl⟩ : ∃ g, f = g + 1 := ⟨f - 1, by omega⟩
    rw [pk_m1 i]
    obtain ⟨k1, k2, k3, k4, k5⟩ := w4 i (by omega)
    obtain ⟨p1, p2, p3, p4⟩ := hpl i (by omega)
    obtain ⟨n1, n2⟩ := hN i (by omega)
    have e : (nI i).toNatClampNeg = i := nI_clamp (by omega)
    obtain ⟨c0, c1, c2, c3, c4⟩ := hcl
    have go : ∀ (p : Nat) (z : Int32), z = nI p → p < 16 → N i ≠ 0 → (P i).1 ≠ 0 → (∀ q, q < 4 → (ln_wide (P i).1 = true ∨ (N i).testBit q = true) → p.testBit q = true) → wX_findNeeded_97 post (wX_findNeeded_48 post f) (nI i) z hc sc lv cl pk pv oc a1 a2 a3 a4 a5 a6 a7 a8 a9 a10 a11 a12 a13 a14 a15 a16 a17 a18 a19 a20 a21 a22 a23 a24 a25 := by
      intro p z hz hp hN0 hP0 hb
      have hi0 : i ≠ 0 := by
        intro h
        rw [h] at hP0
        exact hP0 w3
      refine ln_find97 hc sc lv cl pk pv oc a1 a2 a3 a4 a5 a6 a7 a8 a9 a10 a11 a12 a13 a14 a15 a16 a17 a18 a19 a20 a21 a22 a23 a24 a25 hz hpl hwf' (by omega) hi0 hp hT hN (fun N' a17 a18 hN' hge hbit => ?_)
      refine ih f N' a17 a18 (by omega) (by omega) hN' ⟨?_, ?_, ?_, ?_, ?_⟩
      · intro j hj hj0
        obtain ⟨q, hq, hb'⟩ := ln_nz (hN' j hj).2 hj0
        rcases (hbit j q hj hq).mp hb' with h | ⟨h, _, _⟩
        · rcases c0 j hj (ln_bnz h) with h2 | ⟨i', h2, h3, h4⟩
          · exact Or.inl h2
          · obtain ⟨q', hq', hb2⟩ := ln_nz (hN i' (by omega)).2 h3
            exact Or.inr ⟨i', h2, ln_bnz ((hbit i' q' (by omega) hq').mpr (Or.inl hb2)), h4⟩
        · exact Or.inr ⟨i, by omega, by rw [hge i (Nat.le_refl _)]; exact hN0, hP0, h⟩
      · rw [hge d (by omega)]; exact c1
      · intro j hj hj2
        rw [hge j (by omega)]; exact c2 j hj hj2
      · intro j q hj hq hh
        rcases (hbit j q hj hq).mp hh with h | ⟨_, _, h⟩
        · exact c3 j q hj hq h
        · exact h
      · intro j hj hjd hj0 hjP x hx q hq hw
        have hxlt : x < 16 := by
          obtain ⟨j1, j2, j3, j4, j5⟩ := w4 j (by omega)
          have hj00 : j ≠ 0 := by
            intro h
            rw [h] at hjP
            exact hjP w3
          rcases hx with h | ⟨h, h2⟩
          · have := (j3 hj00).2; omega
          · have := (j4 h).1; omega
        rw [hge j hj] at hj0 hw
        by_cases hji : j = i
        · subst hji
          by_cases hTx : (T x).testBit q = true
          · exact Or.inl hTx
          · right
            rw [hbit x q hxlt hq]
            right
            exact ⟨hx, hb q hq hw, by simpa using hTx⟩
        · rcases c4 j (by omega) hjd hj0 hjP x hx q hq hw with h | h
          · exact Or.inl h
          · right
            rw [hbit x q hxlt hq]
            exact Or.inl h
    have skip : (N i = 0 ∨ (P i).1 = 0) → wX_findNeeded_48 post f (nI i + (-1)) hc sc lv cl pk pv oc a1 a2 a3 a4 a5 a6 a7 a8 a9 a10 a11 a12 a13 a14 a15 a16 a17 a18 a19 a20 a21 a22 a23 a24 a25 := by
      intro hs
      refine ih f N a17 a18 (by omega) (by omega) hN ⟨c0, c1, c2, c3, ?_⟩
      intro j hj hjd hj0 hjP
      by_cases hji : j = i
      · subst hji
        rcases hs with h | h
        · exact absurd h hj0
        · exact absurd h hjP
      · exact c4 j (by omega) hjd hj0 hjP
    refine br_f (nI_pos (by omega)) ⟨pk_in i 16 (by omega), ?_⟩
    refine pk_eq (N i) 0 (fun z => nm_e (skip (Or.inl z))) (fun z => ⟨pk_in i 16 (by omega), ?_⟩) (hx := by rw [e]; exact n1)
    refine pk_eq (P i).1 0 (fun z => nm_e (skip (Or.inr z))) (fun z2 => ⟨pk_in i 16 (by omega), ?_⟩) (hx := by rw [e]; exact p1)
    refine ln_isWide hc sc lv cl pk pv oc a1 a2 a3 a4 a5 a6 a7 a8 a9 a10 a11 a12 a13 a14 a15 a16 a17 a18 a19 a20 a21 a22 a23 a24 a25 (k := (P i).1) (by rw [e]; exact p1) (by omega) (fun w => br_f (by decide) ?_) (fun w => br_t rfl ⟨pk_in i 16 (by omega), ?_⟩)
    · exact go 15 15 rfl (by decide) z z2 (fun q hq _ => ln_b15 q hq)
    · refine go (N i) _ (by rw [e]; exact n1) n2 z z2 (fun q hq h => ?_)
      rcases h with h | h
      · rw [w] at h
        exact absurd h (by decide)
      · exact h
theorem ln_find2 {post : St2 → Prop} {P : Nat → ln_PE} {S d : Nat} {T : Nat → Nat} (hpl : ln_pl a3 a4 a5 a6 P S) (hwf : ln_wf P S) (hd : d < S) (hT : ln_msk a14 T)
    (H : ∀ (N : Nat → Nat) (a17 a18 : Nat → Int32), ln_msk a17 N → ln_cls P T N d 0 → post (hc, sc, lv, cl, pk, pv, oc, a1, a2, a3, a4, a5, a6, a7, a8, a9, a10, a11, a12, a13, a14, a15, a16, a17, a18, a19, a20, a21, a22, a23, a24, a25)) :
    ∀ (r f i : Nat) (a17 a18 : Nat → Int32), i + r = 16 → r < f → (∀ j, j < i → a17 j = 0) → wX_findNeeded_2 post (nI d) hc sc lv cl pk pv oc f (nI i) a1 a2 a3 a4 a5 a6 a7 a8 a9 a10 a11 a12 a13 a14 a15 a16 a17 a18 a19 a20 a21 a22 a23 a24 a25 := by
  have hd16 : d < 16 := by
    have := hwf.1
    omega
  intro r
  induction r with
  | zero =>
    intro f i a17 a18 hi hf hz
    obtain ⟨f, rfl⟩ : ∃ g, f = g + 1 := ⟨f - 1, by omega⟩
    have e : (nI d).toNatClampNeg = d := nI_clamp (by omega)
    have hi' : i = 16 := by omega
    subst hi'
    obtain ⟨t1, t2⟩ := hT d hd16
    refine br_t (by decide) ⟨pk_in d 16 hd16, pk_in d 16 hd16, nm_r (e' := upd a17 d (nI (15 - T d))) (by rw [e, t1, ln_cmN _ t2]) ⟨18, ?_⟩⟩
    rw [← pk_m1 d]
    refine ln_find48 hc sc lv cl pk pv oc a1 a2 a3 a4 a5 a6 a7 a8 a9 a10 a11 a12 a13 a14 a15 a16 a19 a20 a21 a22 a23 a24 a25 hpl hwf hd hT H (d + 1) 18 (ln_up (fun _ => 0) d (15 - T d)) _ a18 (by omega) (by omega) (ln_mskU (T := fun _ => 0) (fun j hj => ⟨hz j hj, Nat.zero_lt_succ 15⟩) (by omega)) ⟨fun j hj hj0 => ?_, ln_us _ _ _, fun j hj hj2 => ?_, fun j q hj hq hb => ?_, fun j hj hjd => absurd hj (by omega)⟩
    · by_cases h : j = d
      · exact Or.inl h
      · rw [ln_un h] at hj0
        exact absurd rfl hj0
    · rw [ln_un (by omega)]
    · by_cases h : j = d
      · subst h
        rw [ln_us, ln_bcm _ t2 q hq] at hb
        simpa using hb
      · rw [ln_un h] at hb
        simp at hb
  | succ r ih =>
    intro f i a17 a18 hi hf hz
    obtain ⟨f, rfl⟩ : ∃ g, f = g + 1 := ⟨f - 1, by omega⟩
    have e : (nI i).toNatClampNeg = i := nI_clamp (by omega)
    refine pk_le 16 i (fun z => absurd z (by omega)) (fun _ => ⟨pk_in i 16 (by omega), nm_e ⟨pk_in i 16 (by omega), nm_e (nm_r (nI_1 i) ?_)⟩⟩)
    rw [e]
    refine ih f (i + 1) _ _ (by omega) (by omega) (fun j hj => ?_)
    by_cases h : j = i
    · rw [h, pk_us]
    · rw [pk_un h]; exact hz j (by omega)
theorem ln_findNeeded {post : St2 → Prop} {P : Nat → ln_PE} {S d : Nat} {T : Nat → Nat} (hpl : ln_pl a3 a4 a5 a6 P S) (hwf : ln_wf P S) (hd : d < S) (hT : ln_msk a14 T)
    (H : ∀ (N : Nat → Nat) (a17 a18 : Nat → Int32), ln_msk a17 N → ln_cls P T N d 0 → post (hc, sc, lv, cl, pk, pv, oc, a1, a2, a3, a4, a5, a6, a7, a8, a9, a10, a11, a12, a13, a14, a15, a16, a17, a18, a19, a20, a21, a22, a23, a24, a25)) : wpX_findNeeded post (hc, sc, lv, cl, pk, pv, oc, a1, a2, a3, a4, a5, a6, a7, a8, a9, a10, a11, a12, a13, a14, a15, a16, a17, a18, a19, a20, a21, a22, a23, a24, a25) (nI d) := by
  unfold wpX_findNeeded
  exact ⟨17, ln_find2 hc sc lv cl pk pv oc a1 a2 a3 a4 a5 a6 a7 a8 a9 a10 a11 a12 a13 a14 a15 a16 a19 a20 a21 a22 a23 a24 a25 hpl hwf hd hT H 16 17 0 a17 a18 (by omega) (by omega) (fun j hj => absurd hj (by omega))⟩
theorem ln_pass59 {post : Int32 → Prop} {P : Nat → ln_PE} {S id asked : Nat} (hpl : ln_pl a3 a4 a5 a6 P S) (hwf : ln_wf P S) (hid : id < S) (has : asked < S) (hst : ln_stp (P id).1 = true) (H : post 0) :
    ∀ (c f i : Nat), asked + 1 = i + c → c < f → wX_isPassedOver_59 post (nI id) (nI asked) hc sc lv cl pk pv oc a1 a2 a3 a4 a5 a6 a7 a8 a9 a10 a11 a12 a13 a14 a15 a16 a17 a18 a19 a20 a21 a22 a23 a24 a25 f (nI i) := by
  obtain ⟨w1, w2, w3, w4⟩ := hwf
  have hid0 : id ≠ 0 := by
    intro h
    rw [h, w3] at hst
    exact absurd hst (by decide)
  intro c
  induction c with
  | zero =>
    intro f i hi hf
    obtain ⟨f, rfl⟩ : ∃ g, f = g + 1 := ⟨f - 1, by omega⟩
    exact pk_lt asked i (fun _ => H) (fun z => absurd z (by omega))
  | succ c ih =>
    intro f i hi hf
    obtain ⟨f, rfl⟩ : ∃ g, f = g + 1 := ⟨f - 1, by omega⟩
    obtain ⟨k1, k2, k3, k4, k5⟩ := w4 i (by omega)
    obtain ⟨p1, p2, p3, p4⟩ := hpl i (by omega)
    have e : (nI i).toNatClampNeg = i := nI_clamp (by omega)
    have G : wX_isPassedOver_59 post (nI id) (nI asked) hc sc lv cl pk pv oc a1 a2 a3 a4 a5 a6 a7 a8 a9 a10 a11 a12 a13 a14 a15 a16 a17 a18 a19 a20 a21 a22 a23 a24 a25 f (nI (i + 1)) := ih f (i + 1) (by omega) (by omega)
    have G122 : wX_isPassedOver_122 post (wX_isPassedOver_59 post (nI id) (nI asked) hc sc lv cl pk pv oc a1 a2 a3 a4 a5 a6 a7 a8 a9 a10 a11 a12 a13 a14 a15 a16 a17 a18 a19 a20 a21 a22 a23 a24 a25 f) (nI id) (nI asked) (nI i) hc sc lv cl pk pv oc a1 a2 a3 a4 a5 a6 a7 a8 a9 a10 a11 a12 a13 a14 a15 a16 a17 a18 a19 a20 a21 a22 a23 a24 a25 := by
      unfold wX_isPassedOver_122 wX_isPassedOver_123
      exact br_t rfl (nm_r (nI_1 i) G)
    have G118 : ln_stp (P i).1 = false → wX_isPassedOver_118 post (wX_isPassedOver_59 post (nI id) (nI asked) hc sc lv cl pk pv oc a1 a2 a3 a4 a5 a6 a7 a8 a9 a10 a11 a12 a13 a14 a15 a16 a17 a18 a19 a20 a21 a22 a23 a24 a25 f) (nI id) (nI asked) (nI i) hc sc lv cl pk pv oc a1 a2 a3 a4 a5 a6 a7 a8 a9 a10 a11 a12 a13 a14 a15 a16 a17 a18 a19 a20 a21 a22 a23 a24 a25 := by
      intro hns
      unfold wX_isPassedOver_118 wX_isPassedOver_123
      refine br_f (by decide) ⟨pk_in i 16 (by omega), ?_⟩
      exact ln_isStep hc sc lv cl pk pv oc a1 a2 a3 a4 a5 a6 a7 a8 a9 a10 a11 a12 a13 a14 a15 a16 a17 a18 a19 a20 a21 a22 a23 a24 a25 (k := (P i).1) (by rw [e]; exact p1) (by omega) (fun z => by rw [hns] at z; exact absurd z (by decide)) (fun _ => ⟨rfl, H⟩)
    refine pk_lt asked i (fun z => absurd z (by omega)) (fun _ => ⟨pk_in i 16 (by omega), br_c (fun _ => nm_r (nI_1 i) G) (fun _ => ⟨pk_in i 16 (by omega), br_c (fun _ => nm_r (nI_1 i) G) (fun _ => ⟨pk_in i 16 (by omega), br_c (fun z => G118 ?_) (fun _ => ⟨pk_in i 16 (by omega), ?_⟩)⟩)⟩)⟩)
    · rw [e, p2] at z
      cases hh : ln_stp (P i).1 with
      | false => rfl
      | true =>
        rw [k5 hh, nI_eq (by omega) (by omega)] at z
        exact absurd z.symm hid0
    · refine ln_hasTwo hc sc lv cl pk pv oc a1 a2 a3 a4 a5 a6 a7 a8 a9 a10 a11 a12 a13 a14 a15 a16 a17 a18 a19 a20 a21 a22 a23 a24 a25 (k := (P i).1) (by rw [e]; exact p1) (by omega) (fun w => br_f (by decide) ⟨pk_in i 16 (by omega), br_c (fun _ => G118 (ln_twost w)) (fun _ => G122)⟩) (fun _ => br_t rfl G122)
theorem ln_passed {post : Int32 → Prop} {P : Nat → ln_PE} {S id asked : Nat} (hpl : ln_pl a3 a4 a5 a6 P S) (hwf : ln_wf P S) (hid : id < S) (has : asked < S) (hle : id ≤ asked) (H : post 0) : wpX_isPassedOver post (hc, sc, lv, cl, pk, pv, oc, a1, a2, a3, a4, a5, a6, a7, a8, a9, a10, a11, a12, a13, a14, a15, a16, a17, a18, a19, a20, a21, a22, a23, a24, a25) (nI id) (nI asked) := by
  have h16 := hwf.1
  have k1 := (hwf.2.2.2 id hid).1
  obtain ⟨p1, p2, p3, p4⟩ := hpl id hid
  have e : (nI id).toNatClampNeg = id := nI_clamp (by omega)
  have hi : vp_in (nI id) 16 := pk_in id 16 (by omega)
  unfold wpX_isPassedOver
  refine br_c (fun _ => H) (fun _ => br_c (fun _ => H) (fun _ => ⟨hi, br_c (fun _ => ⟨hi, br_c (fun _ => ⟨hi, br_c (fun _ => ⟨hi, ?_⟩) (fun _ => H)⟩) (fun _ => H)⟩) (fun _ => H)⟩))
  refine ln_isStep hc sc lv cl pk pv oc a1 a2 a3 a4 a5 a6 a7 a8 a9 a10 a11 a12 a13 a14 a15 a16 a17 a18 a19 a20 a21 a22 a23 a24 a25 (k := (P id).1) (by rw [e]; exact p1) (by omega) (fun w => br_f (by decide) (nm_r (nI_1 id) ⟨18, ?_⟩)) (fun _ => br_t rfl H)
  exact ln_pass59 hc sc lv cl pk pv oc a1 a2 a3 a4 a5 a6 a7 a8 a9 a10 a11 a12 a13 a14 a15 a16 a17 a18 a19 a20 a21 a22 a23 a24 a25 hpl hwf hid has w H (asked - id) 18 (id + 1) (by omega) (by omega)
end
end
section
/-! rows, copies, steps -/
def ln_gat (m : Nat) (g : ln_T → List ln_T) (t : ln_T) : List ln_T := if m.testBit t.1 = true then g t else []
theorem ln_gatT {m : Nat} {g : ln_T → List ln_T} {t : ln_T} (h : m.testBit t.1 = true) : ln_gat m g t = g t := if_pos h
theorem ln_gatF {m : Nat} {g : ln_T → List ln_T} {t : ln_T} (h : m.testBit t.1 = false) : ln_gat m g t = [] := if_neg (by rw [h]; decide)
section
variable (hc sc lv cl pk pv oc : Int32) (a1 a2 a3 a4 a5 a6 a7 a8 a9 a10 a11 a12 a13 a14 a15 a16 a17 a18 a19 a20 a21 a22 a23 a24 a25 : Nat → Int32)
/-- the rows of set 0: n of them, R -/
def ln_rws (a7 a8 a9 : Nat → Int32) (R : List ln_T) : Prop := R.length ≤ 24 ∧ a7 0 = nI R.length ∧ ∀ i t, R[i]? = some t → a8 i = nI t.2.1 ∧ a9 i = t.2.2 ∧ t.1 = i % 4 ∧ t.2.1 < 16
theorem ln_rows2 {post : St2 → Prop} {R : List ln_T} {L : Nat → List ln_T} {m : Nat} (hR : ln_rws a7 a8 a9 R) (hm : m < 16) :
    ∀ (r : List ln_T) (f j : Nat) (l : List ln_T) (a10 a11 a12 a13 : Nat → Int32), R.drop j = r → r.length < f → j ≤ R.length → l.length ≤ j → ln_pic a10 a11 a12 a13 (ln_up L 0 l) →
    (∀ a10 a11 a12 a13 : Nat → Int32, ln_pic a10 a11 a12 a13 (ln_up L 0 (l ++ r.filter (fun t => m.testBit t.1))) → post (hc, sc, lv, cl, pk, pv, oc, a1, a2, a3, a4, a5, a6, a7, a8, a9, a10, a11, a12, a13, a14, a15, a16, a17, a18, a19, a20, a21, a22, a23, a24, a25)) →
    wX_makeRows_2 post (nI 0) (nI m) f (nI j) hc sc lv cl pk pv oc a1 a2 a3 a4 a5 a6 a7 a8 a9 a10 a11 a12 a13 a14 a15 a16 a17 a18 a19 a20 a21 a22 a23 a24 a25 := by
  obtain ⟨r1, r2, r3⟩ := hR
  have e0 : (nI 0).toNatClampNeg = 0 := nI_clamp (by omega)
  intro r
  induction r with
  | nil =>
    intro f j l a10 a11 a12 a13 hr hf hj hl hp H
    obtain ⟨f, rfl⟩ : ∃ g, f = g + 1 := ⟨f - 1, by omega⟩
    have := ln_dnil hr
    refine ⟨pk_in 0 16 (by decide), pk_le R.length j (fun _ => H a10 a11 a12 a13 ?_) (fun z => absurd z (by omega)) (hx := by rw [e0]; exact r2)⟩
    simpa using hp
  | cons t r ih =>
    intro f j l a10 a11 a12 a13 hr hf hj hl hp H
    obtain ⟨f, rfl⟩ : ∃ g, f = g + 1 := ⟨f - 1, by omega⟩
    obtain ⟨d1, d2, d3⟩ := ln_dcons hr
    obtain ⟨g1, g2, g3, g4⟩ := r3 j t d1
    have hf' : r.length < f := by simp at hf; omega
    have e3 : nI j &&& 3 = nI t.1 := by rw [ln_and3 j (by omega), g3]
    have e4 : (24 * nI 0) + nI j = nI j := by rw [show (24 : Int32) = nI 24 from rfl, pk_mul, nI_add, Nat.mul_zero, Nat.zero_add]
    have ht : t.1 < 4 := by omega
    refine ⟨pk_in 0 16 (by decide), pk_le R.length j (fun z => absurd z (by omega)) (fun _ => ?_) (hx := by rw [e0]; exact r2)⟩
    refine ln_isPart hc sc lv cl pk pv oc a1 a2 a3 a4 a5 a6 a7 a8 a9 a10 a11 a12 a13 a14 a15 a16 a17 a18 a19 a20 a21 a22 a23 a24 a25 rfl e3 hm ht (fun z => br_f (by decide) ⟨?_, ?_, ?_⟩) (fun z => br_t rfl (nm_r (nI_1 j) ?_))
    · rw [e4]; exact pk_in j 384 (by omega)
    · rw [e4]; exact pk_in j 384 (by omega)
    · refine ln_addPair hc sc lv cl pk pv oc a1 a2 a3 a4 a5 a6 a7 a8 a9 a10 a11 a12 a13 a14 a15 a16 a17 a18 a19 a20 a21 a22 a23 a24 a25 (L := L) (l := l) (d := 0) (q := t.1) (k := t.2.1) hp (by decide) e3 (by rw [e4, ln_cl (by omega)]; exact g1) ht g4 (fun hl2 a10 a11 a12 a13 hp => nm_r (nI_1 j) ?_) (fun z => absurd z (by omega))
      rw [e4, ln_cl (by omega), g2] at hp
      refine ih f (j + 1) _ a10 a11 a12 a13 d2 hf' (by omega) (by rw [List.length_append]; simp; omega) hp (fun a10 a11 a12 a13 hp => H a10 a11 a12 a13 ?_)
      rw [List.filter_cons_of_pos (by exact z)]
      rw [List.append_assoc] at hp
      exact hp
    · refine ih f (j + 1) l a10 a11 a12 a13 d2 hf' (by omega) (by omega) hp (fun a10 a11 a12 a13 hp => H a10 a11 a12 a13 ?_)
      rw [List.filter_cons_of_neg (by rw [z]; decide)]
      exact hp
theorem ln_makeRows {post : St2 → Prop} {R : List ln_T} {L : Nat → List ln_T} {m : Nat} (hR : ln_rws a7 a8 a9 R) (hm : m < 16) (hp : ln_pic a10 a11 a12 a13 L) (hL : L 0 = [])
    (H : ∀ a10 a11 a12 a13 : Nat → Int32, ln_pic a10 a11 a12 a13 (ln_up L 0 (R.filter (fun t => m.testBit t.1))) → post (hc, sc, lv, cl, pk, pv, oc, a1, a2, a3, a4, a5, a6, a7, a8, a9, a10, a11, a12, a13, a14, a15, a16, a17, a18, a19, a20, a21, a22, a23, a24, a25)) : wpX_makeRows post (hc, sc, lv, cl, pk, pv, oc, a1, a2, a3, a4, a5, a6, a7, a8, a9, a10, a11, a12, a13, a14, a15, a16, a17, a18, a19, a20, a21, a22, a23, a24, a25) (nI 0) (nI m) := by
  unfold wpX_makeRows
  refine ⟨25, ln_rows2 hc sc lv cl pk pv oc a1 a2 a3 a4 a5 a6 a7 a8 a9 a14 a15 a16 a17 a18 a19 a20 a21 a22 a23 a24 a25 (L := L) hR hm R 25 0 [] a10 a11 a12 a13 rfl (by have := hR.1; omega) (by omega) (by simp) ?_ (fun a10 a11 a12 a13 hp => H a10 a11 a12 a13 hp)⟩
  rw [← hL, ln_ui]
  exact hp
/-! copies -/
theorem ln_copy43 {post : Int32 → St2 → Prop} {J : Int32 → Int32 → Int32 → Int32 → Int32 → Int32 → Int32 → Int32 → (Nat → Int32) → (Nat → Int32) → (Nat → Int32) → (Nat → Int32) → (Nat → Int32) → (Nat → Int32) → (Nat → Int32) → (Nat → Int32) → (Nat → Int32) → (Nat → Int32) → (Nat → Int32) → (Nat → Int32) → (Nat → Int32) → (Nat → Int32) → (Nat → Int32) → (Nat → Int32) → (Nat → Int32) → (Nat → Int32) → (Nat → Int32) → (Nat → Int32) → (Nat → Int32) → (Nat → Int32) → (Nat → Int32) → (Nat → Int32) → (Nat → Int32) → Prop} {L : Nat → List ln_T} {id x m tm j : Nat} {t : ln_T} {y : Int32} (hid : id < 16) (hx : x < 16) (hne : x ≠ id) (hj : (L x)[j]? = some t) (htm : tm < 100) (hy : y = nI (48 * x + j)) :
    ∀ (c f i : Nat) (l : List ln_T) (a10 a11 a12 a13 : Nat → Int32), i + c = tm → c < f → ln_pic a10 a11 a12 a13 (ln_up L id l) →
    (l.length + c ≤ 48 → ∀ a10 a11 a12 a13 : Nat → Int32, ln_pic a10 a11 a12 a13 (ln_up L id (l ++ List.replicate c t)) → J (nI (48 * x + (j + 1))) hc sc lv cl pk pv oc a1 a2 a3 a4 a5 a6 a7 a8 a9 a10 a11 a12 a13 a14 a15 a16 a17 a18 a19 a20 a21 a22 a23 a24 a25) →
    (48 < l.length + c → ∀ (l : List ln_T) (a10 a11 a12 a13 : Nat → Int32), ln_pic a10 a11 a12 a13 (ln_up L id l) → post 0 (hc, sc, lv, cl, pk, pv, oc, a1, a2, a3, a4, a5, a6, a7, a8, a9, a10, a11, a12, a13, a14, a15, a16, a17, a18, a19, a20, a21, a22, a23, a24, a25)) →
    wX_copyPairs_43 post J (nI id) (nI x) (nI m) (nI tm) y f (nI i) hc sc lv cl pk pv oc a1 a2 a3 a4 a5 a6 a7 a8 a9 a10 a11 a12 a13 a14 a15 a16 a17 a18 a19 a20 a21 a22 a23 a24 a25 := by
  subst hy
  intro c
  induction c with
  | zero =>
    intro f i l a10 a11 a12 a13 hi hf hp H1 H0
    obtain ⟨f, rfl⟩ : ∃ g, f = g + 1 := ⟨f - 1, by omega⟩
    refine pk_le tm i (fun _ => nm_r (ln_ad1 _ _) (H1 ?_ a10 a11 a12 a13 (by simpa using hp))) (fun z => absurd z (by omega))
    have := (hp id hid).2.1
    rw [ln_us] at this
    omega
  | succ c ih =>
    intro f i l a10 a11 a12 a13 hi hf hp H1 H0
    obtain ⟨f, rfl⟩ : ∃ g, f = g + 1 := ⟨f - 1, by omega⟩
    have hd := ln_dget hj
    rw [← ln_un (L := L) (x := l) hne] at hd
    obtain ⟨g1, g2, g3, g4, g5, g6, g7, g8, g9⟩ := ln_hcons hp hx hd
    refine pk_le tm i (fun z => absurd z (by omega)) (fun _ => ⟨g3, g3, g3, ?_⟩)
    refine ln_addPair hc sc lv cl pk pv oc a1 a2 a3 a4 a5 a6 a7 a8 a9 a10 a11 a12 a13 a14 a15 a16 a17 a18 a19 a20 a21 a22 a23 a24 a25 (L := L) (l := l) (q := t.1) (k := t.2.1) hp hid g4 g5 g7 g8 (fun hl a10 a11 a12 a13 hp => br_f (by decide) (nm_r (nI_1 i) ?_)) (fun z => br_t rfl (H0 (by omega) l a10 a11 a12 a13 hp))
    rw [g6] at hp
    refine ih f (i + 1) _ a10 a11 a12 a13 (by omega) (by omega) hp (fun h a10 a11 a12 a13 hp => H1 ?_ a10 a11 a12 a13 ?_) (fun h => H0 ?_)
    · rw [List.length_append] at h; simp at h; omega
    · rw [List.replicate_succ]
      rw [List.append_assoc] at hp
      exact hp
    · rw [List.length_append] at h; simp at h; omega
theorem ln_copy6 {post : Int32 → St2 → Prop} {L : Nat → List ln_T} {id x m tm : Nat} (hid : id < 16) (hx : x < 16) (hne : x ≠ id) (hm : m < 16) (htm : tm < 100) :
    ∀ (r : List ln_T) (f j : Nat) (l : List ln_T) (a10 a11 a12 a13 : Nat → Int32), (L x).drop j = r → r.length < f → j ≤ 48 → ln_pic a10 a11 a12 a13 (ln_up L id l) →
    (l.length + (r.flatMap (ln_gat m (List.replicate tm))).length ≤ 48 → ∀ a10 a11 a12 a13 : Nat → Int32, ln_pic a10 a11 a12 a13 (ln_up L id (l ++ r.flatMap (ln_gat m (List.replicate tm)))) → post 1 (hc, sc, lv, cl, pk, pv, oc, a1, a2, a3, a4, a5, a6, a7, a8, a9, a10, a11, a12, a13, a14, a15, a16, a17, a18, a19, a20, a21, a22, a23, a24, a25)) →
    (48 < l.length + (r.flatMap (ln_gat m (List.replicate tm))).length → ∀ (l : List ln_T) (a10 a11 a12 a13 : Nat → Int32), ln_pic a10 a11 a12 a13 (ln_up L id l) → post 0 (hc, sc, lv, cl, pk, pv, oc, a1, a2, a3, a4, a5, a6, a7, a8, a9, a10, a11, a12, a13, a14, a15, a16, a17, a18, a19, a20, a21, a22, a23, a24, a25)) →
    wX_copyPairs_6 post (nI id) (nI x) (nI m) (nI tm) f (nI (48 * x + j)) hc sc lv cl pk pv oc a1 a2 a3 a4 a5 a6 a7 a8 a9 a10 a11 a12 a13 a14 a15 a16 a17 a18 a19 a20 a21 a22 a23 a24 a25 := by
  intro r
  induction r with
  | nil =>
    intro f j l a10 a11 a12 a13 hr hf hj hp H1 H0
    obtain ⟨f, rfl⟩ : ∃ g, f = g + 1 := ⟨f - 1, by omega⟩
    rw [← ln_un (L := L) (x := l) hne] at hr
    refine ⟨pk_in x 16 hx, br_t (ln_hnil hp hx hj hr) (H1 ?_ a10 a11 a12 a13 (by simpa using hp))⟩
    have := (hp id hid).2.1
    rw [ln_us] at this
    simpa using this
  | cons t r ih =>
    intro f j l a10 a11 a12 a13 hr hf hj hp H1 H0
    obtain ⟨f, rfl⟩ : ∃ g, f = g + 1 := ⟨f - 1, by omega⟩
    have hg := (ln_dcons hr).1
    have hr2 := hr
    rw [← ln_un (L := L) (x := l) hne] at hr
    obtain ⟨g1, g2, g3, g4, g5, g6, g7, g8, g9⟩ := ln_hcons hp hx hr
    rw [ln_un hne] at g9
    have hf' : r.length < f := by simp at hf; omega
    refine ⟨pk_in x 16 hx, br_f g1 ⟨g3, ?_⟩⟩
    rw [List.flatMap_cons] at H1 H0
    refine ln_isPart hc sc lv cl pk pv oc a1 a2 a3 a4 a5 a6 a7 a8 a9 a10 a11 a12 a13 a14 a15 a16 a17 a18 a19 a20 a21 a22 a23 a24 a25 rfl g4 hm g7 (fun z => br_f (by decide) ⟨tm + 1, ?_⟩) (fun z => br_t rfl (nm_r (ln_ad1 _ _) ?_))
    · rw [ln_gatT z] at H1 H0
      refine ln_copy43 hc sc lv cl pk pv oc a1 a2 a3 a4 a5 a6 a7 a8 a9 a14 a15 a16 a17 a18 a19 a20 a21 a22 a23 a24 a25 hid hx hne hg htm rfl tm (tm + 1) 0 l a10 a11 a12 a13 (by omega) (by omega) hp (fun hl a10 a11 a12 a13 hp => ?_) (fun hl => H0 ?_)
      · refine ih f (j + 1) _ a10 a11 a12 a13 g9 hf' (by omega) hp (fun h a10 a11 a12 a13 hp => H1 ?_ a10 a11 a12 a13 ?_) (fun h => H0 ?_)
        · simp only [List.length_append, List.length_replicate] at h ⊢; omega
        · rw [List.append_assoc] at hp
          exact hp
        · simp only [List.length_append, List.length_replicate] at h ⊢; omega
      · simp only [List.length_append, List.length_replicate]; omega
    · rw [ln_gatF z, List.nil_append] at H1 H0
      exact ih f (j + 1) l a10 a11 a12 a13 g9 hf' (by omega) hp H1 H0
theorem ln_copyPairs {post : Int32 → St2 → Prop} {L : Nat → List ln_T} {l : List ln_T} {id x m tm : Nat} {y z w : Int32} (hy : y = nI x) (hz : z = nI m) (hw : w = nI tm) (hid : id < 16) (hx : x < 16) (hne : x ≠ id) (hm : m < 16) (htm : tm < 100) (hp : ln_pic a10 a11 a12 a13 (ln_up L id l))
    (H1 : l.length + ((L x).flatMap (ln_gat m (List.replicate tm))).length ≤ 48 → ∀ a10 a11 a12 a13 : Nat → Int32, ln_pic a10 a11 a12 a13 (ln_up L id (l ++ (L x).flatMap (ln_gat m (List.replicate tm)))) → post 1 (hc, sc, lv, cl, pk, pv, oc, a1, a2, a3, a4, a5, a6, a7, a8, a9, a10, a11, a12, a13, a14, a15, a16, a17, a18, a19, a20, a21, a22, a23, a24, a25))
    (H0 : 48 < l.length + ((L x).flatMap (ln_gat m (List.replicate tm))).length → ∀ (l : List ln_T) (a10 a11 a12 a13 : Nat → Int32), ln_pic a10 a11 a12 a13 (ln_up L id l) → post 0 (hc, sc, lv, cl, pk, pv, oc, a1, a2, a3, a4, a5, a6, a7, a8, a9, a10, a11, a12, a13, a14, a15, a16, a17, a18, a19, a20, a21, a22, a23, a24, a25)) :
    wpX_copyPairs post (hc, sc, lv, cl, pk, pv, oc, a1, a2, a3, a4, a5, a6, a7, a8, a9, a10, a11, a12, a13, a14, a15, a16, a17, a18, a19, a20, a21, a22, a23, a24, a25) (nI id) y z w := by
  subst hy hz hw
  have hlen := (hp x hx).2.1
  rw [ln_un hne] at hlen
  unfold wpX_copyPairs
  exact nm_r (ln_m48 x) ⟨49, ln_copy6 hc sc lv cl pk pv oc a1 a2 a3 a4 a5 a6 a7 a8 a9 a14 a15 a16 a17 a18 a19 a20 a21 a22 a23 a24 a25 hid hx hne hm htm (L x) 49 0 l a10 a11 a12 a13 rfl (by omega) (by omega) hp H1 H0⟩
end
end
section
/-! makeCopies, makeSteps -/
def ln_st (k : Nat) (a b : Int32) (t : ln_T) : List ln_T := if k = 2 then (if t.2.2 < a then [] else [t]) else if k = 1 then [(t.1, t.2.1, t.2.2 * a + b)] else [(t.1, (t.2.2 &&& 15).toNatClampNeg, nI t.2.1)]
section
variable (hc sc lv cl pk pv oc : Int32) (a1 a2 a3 a4 a5 a6 a7 a8 a9 a10 a11 a12 a13 a14 a15 a16 a17 a18 a19 a20 a21 a22 a23 a24 a25 : Nat → Int32)
theorem ln_makeRep {post : Int32 → St2 → Prop} {L : Nat → List ln_T} {l : List ln_T} {id x m tm : Nat} (h4 : a4 id = nI x) (h5 : a5 id = nI tm) (hid : id < 16) (hx : x < 16) (hne : x ≠ id) (hm : m < 16) (htm : tm < 100) (hp : ln_pic a10 a11 a12 a13 (ln_up L id l))
    (H1 : l.length + ((L x).flatMap (ln_gat m (List.replicate tm))).length ≤ 48 → ∀ a10 a11 a12 a13 : Nat → Int32, ln_pic a10 a11 a12 a13 (ln_up L id (l ++ (L x).flatMap (ln_gat m (List.replicate tm)))) → post 1 (hc, sc, lv, cl, pk, pv, oc, a1, a2, a3, a4, a5, a6, a7, a8, a9, a10, a11, a12, a13, a14, a15, a16, a17, a18, a19, a20, a21, a22, a23, a24, a25))
    (H0 : 48 < l.length + ((L x).flatMap (ln_gat m (List.replicate tm))).length → ∀ (l : List ln_T) (a10 a11 a12 a13 : Nat → Int32), ln_pic a10 a11 a12 a13 (ln_up L id l) → post 0 (hc, sc, lv, cl, pk, pv, oc, a1, a2, a3, a4, a5, a6, a7, a8, a9, a10, a11, a12, a13, a14, a15, a16, a17, a18, a19, a20, a21, a22, a23, a24, a25)) :
    wpX_makeCopies post (hc, sc, lv, cl, pk, pv, oc, a1, a2, a3, a4, a5, a6, a7, a8, a9, a10, a11, a12, a13, a14, a15, a16, a17, a18, a19, a20, a21, a22, a23, a24, a25) (nI id) (nI 4) (nI m) := by
  have e : (nI id).toNatClampNeg = id := nI_clamp (by omega)
  unfold wpX_makeCopies
  refine br_t rfl ⟨pk_in id 16 hid, ?_⟩
  unfold wX_makeCopies_15
  refine ⟨pk_in id 16 hid, ?_⟩
  refine ln_copyPairs hc sc lv cl pk pv oc a1 a2 a3 a4 a5 a6 a7 a8 a9 a10 a11 a12 a13 a14 a15 a16 a17 a18 a19 a20 a21 a22 a23 a24 a25 (by rw [e]; exact h4) rfl (by rw [e]; exact h5) hid hx hne hm htm hp (fun h a10 a11 a12 a13 hp => br_f (by decide) (br_t rfl (H1 h a10 a11 a12 a13 hp))) (fun h l a10 a11 a12 a13 hp => br_t rfl (H0 h l a10 a11 a12 a13 hp))
theorem ln_makeUni {post : Int32 → St2 → Prop} {L : Nat → List ln_T} {l : List ln_T} {id x y m : Nat} (h4 : a4 id = nI x) (h5 : a5 id = nI y) (hid : id < 16) (hx : x < 16) (hne : x ≠ id) (hy : y < 16) (hney : y ≠ id) (hm : m < 16) (hp : ln_pic a10 a11 a12 a13 (ln_up L id l))
    (H1 : l.length + ((L x).flatMap (ln_gat m (List.replicate 1))).length + ((L y).flatMap (ln_gat m (List.replicate 1))).length ≤ 48 → ∀ a10 a11 a12 a13 : Nat → Int32, ln_pic a10 a11 a12 a13 (ln_up L id (l ++ (L x).flatMap (ln_gat m (List.replicate 1)) ++ (L y).flatMap (ln_gat m (List.replicate 1)))) → post 1 (hc, sc, lv, cl, pk, pv, oc, a1, a2, a3, a4, a5, a6, a7, a8, a9, a10, a11, a12, a13, a14, a15, a16, a17, a18, a19, a20, a21, a22, a23, a24, a25))
    (H0 : 48 < l.length + ((L x).flatMap (ln_gat m (List.replicate 1))).length + ((L y).flatMap (ln_gat m (List.replicate 1))).length → ∀ (l : List ln_T) (a10 a11 a12 a13 : Nat → Int32), ln_pic a10 a11 a12 a13 (ln_up L id l) → post 0 (hc, sc, lv, cl, pk, pv, oc, a1, a2, a3, a4, a5, a6, a7, a8, a9, a10, a11, a12, a13, a14, a15, a16, a17, a18, a19, a20, a21, a22, a23, a24, a25)) :
    wpX_makeCopies post (hc, sc, lv, cl, pk, pv, oc, a1, a2, a3, a4, a5, a6, a7, a8, a9, a10, a11, a12, a13, a14, a15, a16, a17, a18, a19, a20, a21, a22, a23, a24, a25) (nI id) (nI 5) (nI m) := by
  have e : (nI id).toNatClampNeg = id := nI_clamp (by omega)
  unfold wpX_makeCopies
  refine br_f (by decide) ?_
  unfold wX_makeCopies_15
  refine ⟨pk_in id 16 hid, ?_⟩
  refine ln_copyPairs hc sc lv cl pk pv oc a1 a2 a3 a4 a5 a6 a7 a8 a9 a10 a11 a12 a13 a14 a15 a16 a17 a18 a19 a20 a21 a22 a23 a24 a25 (tm := 1) (by rw [e]; exact h4) rfl rfl hid hx hne hm (by decide) hp (fun h a10 a11 a12 a13 hp => br_f (by decide) (br_f (by decide) ⟨pk_in id 16 hid, ?_⟩)) (fun h l a10 a11 a12 a13 hp => br_t rfl (H0 (by omega) l a10 a11 a12 a13 hp))
  refine ln_copyPairs hc sc lv cl pk pv oc a1 a2 a3 a4 a5 a6 a7 a8 a9 a10 a11 a12 a13 a14 a15 a16 a17 a18 a19 a20 a21 a22 a23 a24 a25 (tm := 1) (by rw [e]; exact h5) rfl rfl hid hy hney hm (by decide) hp (fun h a10 a11 a12 a13 hp => br_f (by decide) (H1 ?_ a10 a11 a12 a13 hp)) (fun h l a10 a11 a12 a13 hp => br_t rfl (H0 ?_ l a10 a11 a12 a13 hp))
  · rw [List.length_append] at h; omega
  · rw [List.length_append] at h; omega
theorem ln_passStep {post : Int32 → St2 → Prop} {k id : Nat} {a b y : Int32} {t : ln_T} (hy : y = nI id) (hid : id < 16) (h3 : a3 id = nI k) (h5 : a5 id = a) (h6 : a6 id = b) (hk : k = 1 ∨ k = 2 ∨ k = 11) (hpk : pk = nI t.2.1) (hpv : pv = t.2.2) (ht : t.2.1 < 16)
    (H0 : ln_st k a b t = [] → post 0 (hc, sc, lv, cl, pk, pv, oc, a1, a2, a3, a4, a5, a6, a7, a8, a9, a10, a11, a12, a13, a14, a15, a16, a17, a18, a19, a20, a21, a22, a23, a24, a25)) (H1 : ∀ t' : ln_T, ln_st k a b t = [t'] → t'.1 = t.1 → t'.2.1 < 16 → post 1 (hc, sc, lv, cl, nI t'.2.1, t'.2.2, oc, a1, a2, a3, a4, a5, a6, a7, a8, a9, a10, a11, a12, a13, a14, a15, a16, a17, a18, a19, a20, a21, a22, a23, a24, a25)) : wpX_passStep post (hc, sc, lv, cl, pk, pv, oc, a1, a2, a3, a4, a5, a6, a7, a8, a9, a10, a11, a12, a13, a14, a15, a16, a17, a18, a19, a20, a21, a22, a23, a24, a25) y := by
  subst hy
  have e : (nI id).toNatClampNeg = id := nI_clamp (by omega)
  have hk' : k < 12 := by omega
  have hi : vp_in (nI id) 16 := pk_in id 16 hid
  unfold wpX_passStep
  refine ⟨hi, nm_r (e' := nI k) (by rw [e]; exact h3) ⟨hi, nm_r (e' := a) (by rw [e]; exact h5) ?_⟩⟩
  refine pk_eq k 2 (fun z => br_c (fun lt => H0 ?_) (fun lt => ?_)) (fun z2 => pk_eq k 1 (fun z => ⟨hi, nm_r (e' := t.2.2 * a + b) (by rw [e, h6, hpv]) ?_⟩) (fun z1 => pk_eq k 3 (fun z => absurd z (by omega)) (fun z3 => nm_e ?_)))
  · rw [hpv] at lt
    simp [ln_st, z, lt]
  · have := H1 t (by rw [hpv] at lt; simp [ln_st, z, lt]) rfl ht
    rw [← hpk, ← hpv] at this
    exact this
  · have := H1 (t.1, t.2.1, t.2.2 * a + b) (by simp [ln_st, z]) rfl ht
    rw [← hpk] at this
    exact this
  · obtain ⟨j, j1, j2⟩ := pk_andE pv (m := 15) 4 (by decide)
    have e2 : (t.2.2 &&& 15).toNatClampNeg = j := by rw [← hpv, j2]; exact nI_clamp (by omega)
    have := H1 (t.1, (t.2.2 &&& 15).toNatClampNeg, nI t.2.1) (by simp [ln_st, z2, z1]) rfl (by show (t.2.2 &&& 15).toNatClampNeg < 16; rw [e2]; exact j1)
    rw [show ((t.1, (t.2.2 &&& 15).toNatClampNeg, nI t.2.1) : ln_T).2.1 = j from e2, ← j2] at this
    rw [← hpk] at this
    exact this
theorem ln_step177 {post : Int32 → St2 → Prop} {J : Int32 → Int32 → Int32 → Int32 → Int32 → Int32 → Int32 → Int32 → (Nat → Int32) → (Nat → Int32) → (Nat → Int32) → (Nat → Int32) → (Nat → Int32) → (Nat → Int32) → (Nat → Int32) → (Nat → Int32) → (Nat → Int32) → (Nat → Int32) → (Nat → Int32) → (Nat → Int32) → (Nat → Int32) → (Nat → Int32) → (Nat → Int32) → (Nat → Int32) → (Nat → Int32) → (Nat → Int32) → (Nat → Int32) → (Nat → Int32) → (Nat → Int32) → (Nat → Int32) → (Nat → Int32) → (Nat → Int32) → (Nat → Int32) → Prop} {L : Nat → List ln_T} {l : List ln_T} {id x m j : Nat} {t : ln_T} {w : Int32} (hid : id < 16) (hj : vp_in (nI (48 * x + j)) 768) (h11 : a11 (nI (48 * x + j)).toNatClampNeg = nI t.1) (ht1 : t.1 < 4) (ht2 : t.2.1 < 16) (hpk : pk = nI t.2.1) (hpv : pv = t.2.2) (hw : w = 1) (hp : ln_pic a10 a11 a12 a13 (ln_up L id l))
    (H1 : l.length + 1 ≤ 48 → ∀ a10 a11 a12 a13 : Nat → Int32, ln_pic a10 a11 a12 a13 (ln_up L id (l ++ [t])) → J (nI (48 * x + (j + 1))) hc sc lv cl pk pv oc a1 a2 a3 a4 a5 a6 a7 a8 a9 a10 a11 a12 a13 a14 a15 a16 a17 a18 a19 a20 a21 a22 a23 a24 a25)
    (H0 : 48 < l.length + 1 → post 0 (hc, sc, lv, cl, pk, pv, oc, a1, a2, a3, a4, a5, a6, a7, a8, a9, a10, a11, a12, a13, a14, a15, a16, a17, a18, a19, a20, a21, a22, a23, a24, a25)) : wX_makeSteps_177 post J (nI id) (nI m) (nI x) (nI (48 * x + j)) w hc sc lv cl pk pv oc a1 a2 a3 a4 a5 a6 a7 a8 a9 a10 a11 a12 a13 a14 a15 a16 a17 a18 a19 a20 a21 a22 a23 a24 a25 := by
  subst hw
  unfold wX_makeSteps_177
  refine br_f (by decide) ⟨hj, ?_⟩
  refine ln_addPair hc sc lv cl pk pv oc a1 a2 a3 a4 a5 a6 a7 a8 a9 a10 a11 a12 a13 a14 a15 a16 a17 a18 a19 a20 a21 a22 a23 a24 a25 (L := L) (l := l) (q := t.1) (k := t.2.1) hp hid h11 hpk ht1 ht2 (fun h a10 a11 a12 a13 hp => br_f (by decide) (nm_r (ln_ad1 _ _) (H1 (by omega) a10 a11 a12 a13 ?_))) (fun h => br_t rfl (H0 (by omega)))
  rw [hpv] at hp
  exact hp
theorem ln_step148 {post : Int32 → St2 → Prop} {J : Int32 → Int32 → Int32 → Int32 → Int32 → Int32 → Int32 → Int32 → (Nat → Int32) → (Nat → Int32) → (Nat → Int32) → (Nat → Int32) → (Nat → Int32) → (Nat → Int32) → (Nat → Int32) → (Nat → Int32) → (Nat → Int32) → (Nat → Int32) → (Nat → Int32) → (Nat → Int32) → (Nat → Int32) → (Nat → Int32) → (Nat → Int32) → (Nat → Int32) → (Nat → Int32) → (Nat → Int32) → (Nat → Int32) → (Nat → Int32) → (Nat → Int32) → (Nat → Int32) → (Nat → Int32) → (Nat → Int32) → (Nat → Int32) → Prop} {L : Nat → List ln_T} {l : List ln_T} {id x m j k : Nat} {t : ln_T} {a b : Int32} (hid : id < 16) (h3 : a3 id = nI k) (h5 : a5 id = a) (h6 : a6 id = b) (hk : k = 1 ∨ k = 2 ∨ k = 11) (h19 : a19 0 = nI id)
    (hj : vp_in (nI (48 * x + j)) 768) (h11 : a11 (nI (48 * x + j)).toNatClampNeg = nI t.1) (ht1 : t.1 < 4) (ht2 : t.2.1 < 16) (hpk : pk = nI t.2.1) (hpv : pv = t.2.2) (hp : ln_pic a10 a11 a12 a13 (ln_up L id l))
    (H1 : l.length + (ln_st k a b t).length ≤ 48 → ∀ (pk pv : Int32) (a10 a11 a12 a13 : Nat → Int32), ln_pic a10 a11 a12 a13 (ln_up L id (l ++ ln_st k a b t)) → J (nI (48 * x + (j + 1))) hc sc lv cl pk pv oc a1 a2 a3 a4 a5 a6 a7 a8 a9 a10 a11 a12 a13 a14 a15 a16 a17 a18 a19 a20 a21 a22 a23 a24 a25)
    (H0 : 48 < l.length + (ln_st k a b t).length → ∀ pk pv : Int32, post 0 (hc, sc, lv, cl, pk, pv, oc, a1, a2, a3, a4, a5, a6, a7, a8, a9, a10, a11, a12, a13, a14, a15, a16, a17, a18, a19, a20, a21, a22, a23, a24, a25)) : wX_makeSteps_148 post J (nI id) (nI m) (nI x) (nI (48 * x + j)) 2 1 (nI 0) hc sc lv cl pk pv oc a1 a2 a3 a4 a5 a6 a7 a8 a9 a10 a11 a12 a13 a14 a15 a16 a17 a18 a19 a20 a21 a22 a23 a24 a25 := by
  have hl : l.length ≤ 48 := by
    have := (hp id hid).2.1
    rw [ln_us] at this
    exact this
  have e0 : (nI 0).toNatClampNeg = 0 := nI_clamp (by omega)
  refine br_f (by decide) (br_f (by decide) ⟨pk_in 0 16 (by decide), ?_⟩)
  refine ln_passStep hc sc lv cl pk pv oc a1 a2 a3 a4 a5 a6 a7 a8 a9 a10 a11 a12 a13 a14 a15 a16 a17 a18 a19 a20 a21 a22 a23 a24 a25 (id := id) (t := t) (by rw [e0]; exact h19) hid h3 h5 h6 hk hpk hpv ht2 (fun z => nm_e (br_t (by decide) ?_)) (fun t' z z1 z2 => nm_e (br_t (by decide) ?_))
  · unfold wX_makeSteps_177
    refine br_t rfl (nm_r (ln_ad1 _ _) (H1 ?_ pk pv a10 a11 a12 a13 ?_))
    · rw [z]; exact hl
    · rw [z, List.append_nil]; exact hp
  · rw [z] at H1 H0
    exact ln_step177 hc sc lv cl (nI t'.2.1) t'.2.2 oc a1 a2 a3 a4 a5 a6 a7 a8 a9 a10 a11 a12 a13 a14 a15 a16 a17 a18 a19 a20 a21 a22 a23 a24 a25 hid hj (by rw [z1]; exact h11) (by omega) z2 rfl rfl rfl hp (fun h a10 a11 a12 a13 hp => H1 h _ _ a10 a11 a12 a13 hp) (fun h => H0 h _ _)
theorem ln_step81 {post : Int32 → St2 → Prop} {L : Nat → List ln_T} {id x m k : Nat} {a b : Int32} (hcl : cl = nI 1) (hid : id < 16) (hx : x < 16) (hne : x ≠ id) (hm : m < 16) (h3 : a3 id = nI k) (h5 : a5 id = a) (h6 : a6 id = b) (hk : k = 1 ∨ k = 2 ∨ k = 11) (h19 : a19 0 = nI id) :
    ∀ (r : List ln_T) (f j : Nat) (l : List ln_T) (pk pv : Int32) (a10 a11 a12 a13 : Nat → Int32), (L x).drop j = r → r.length < f → j ≤ 48 → ln_pic a10 a11 a12 a13 (ln_up L id l) →
    (l.length + (r.flatMap (ln_gat m (ln_st k a b))).length ≤ 48 → ∀ (pk pv : Int32) (a10 a11 a12 a13 : Nat → Int32), ln_pic a10 a11 a12 a13 (ln_up L id (l ++ r.flatMap (ln_gat m (ln_st k a b)))) → post 1 (hc, sc, lv, cl, pk, pv, oc, a1, a2, a3, a4, a5, a6, a7, a8, a9, a10, a11, a12, a13, a14, a15, a16, a17, a18, a19, a20, a21, a22, a23, a24, a25)) →
    (48 < l.length + (r.flatMap (ln_gat m (ln_st k a b))).length → ∀ (l : List ln_T) (pk pv : Int32) (a10 a11 a12 a13 : Nat → Int32), ln_pic a10 a11 a12 a13 (ln_up L id l) → post 0 (hc, sc, lv, cl, pk, pv, oc, a1, a2, a3, a4, a5, a6, a7, a8, a9, a10, a11, a12, a13, a14, a15, a16, a17, a18, a19, a20, a21, a22, a23, a24, a25)) →
    wX_makeSteps_81 post (nI id) (nI m) (nI x) f (nI (48 * x + j)) hc sc lv cl pk pv oc a1 a2 a3 a4 a5 a6 a7 a8 a9 a10 a11 a12 a13 a14 a15 a16 a17 a18 a19 a20 a21 a22 a23 a24 a25 := by
  intro r
  induction r with
  | nil =>
    intro f j l pk pv a10 a11 a12 a13 hr hf hj hp H1 H0
    obtain ⟨f, rfl⟩ : ∃ g, f = g + 1 := ⟨f - 1, by omega⟩
    rw [← ln_un (L := L) (x := l) hne] at hr
    refine ⟨pk_in x 16 hx, br_t (ln_hnil hp hx hj hr) (H1 ?_ pk pv a10 a11 a12 a13 (by simpa using hp))⟩
    have := (hp id hid).2.1
    rw [ln_us] at this
    simpa using this
  | cons t r ih =>
    intro f j l pk pv a10 a11 a12 a13 hr hf hj hp H1 H0
    obtain ⟨f, rfl⟩ : ∃ g, f = g + 1 := ⟨f - 1, by omega⟩
    rw [← ln_un (L := L) (x := l) hne] at hr
    obtain ⟨g1, g2, g3, g4, g5, g6, g7, g8, g9⟩ := ln_hcons hp hx hr
    rw [ln_un hne] at g9
    have hf' : r.length < f := by simp at hf; omega
    refine ⟨pk_in x 16 hx, br_f g1 ⟨g3, ?_⟩⟩
    rw [List.flatMap_cons] at H1 H0
    refine ln_isPart hc sc lv cl pk pv oc a1 a2 a3 a4 a5 a6 a7 a8 a9 a10 a11 a12 a13 a14 a15 a16 a17 a18 a19 a20 a21 a22 a23 a24 a25 rfl g4 hm g7 (fun z => br_f (by decide) ⟨g3, nm_e ⟨g3, nm_e (nm_r (e' := nI 0) (by rw [hcl]; rfl) ⟨2, ?_⟩)⟩⟩) (fun z => br_t rfl (nm_r (ln_ad1 _ _) ?_))
    · rw [ln_gatT z] at H1 H0
      refine ln_step148 hc sc lv cl (a12 (nI (48 * x + j)).toNatClampNeg) (a13 (nI (48 * x + j)).toNatClampNeg) oc a1 a2 a3 a4 a5 a6 a7 a8 a9 a10 a11 a12 a13 a14 a15 a16 a17 a18 a19 a20 a21 a22 a23 a24 a25 hid h3 h5 h6 hk h19 g3 g4 g7 g8 g5 g6 hp (fun hl pk pv a10 a11 a12 a13 hp => ?_) (fun hl pk pv => H0 ?_ l pk pv a10 a11 a12 a13 hp)
      · refine ih f (j + 1) _ pk pv a10 a11 a12 a13 g9 hf' (by omega) hp (fun h pk pv a10 a11 a12 a13 hp => H1 ?_ pk pv a10 a11 a12 a13 ?_) (fun h => H0 ?_)
        · simp only [List.length_append] at h ⊢; omega
        · rw [List.append_assoc] at hp
          exact hp
        · simp only [List.length_append] at h ⊢; omega
      · simp only [List.length_append]; omega
    · rw [ln_gatF z, List.nil_append] at H1 H0
      exact ih f (j + 1) l pk pv a10 a11 a12 a13 g9 hf' (by omega) hp H1 H0
theorem ln_makeSteps {post : Int32 → St2 → Prop} {L : Nat → List ln_T} {l : List ln_T} {id x m k kx : Nat} {a b : Int32} (hid : id < 16) (hx : x < 16) (hne : x ≠ id) (hm : m < 16) (h3 : a3 id = nI k) (h4 : a4 id = nI x) (h5 : a5 id = a) (h6 : a6 id = b) (hk : k = 1 ∨ k = 2 ∨ k = 11) (h3x : a3 x = nI kx) (hkx : kx < 100) (hst : ln_stp kx = false) (hp : ln_pic a10 a11 a12 a13 (ln_up L id l))
    (H1 : l.length + ((L x).flatMap (ln_gat m (ln_st k a b))).length ≤ 48 → ∀ (cl pk pv : Int32) (a10 a11 a12 a13 a19 : Nat → Int32), ln_pic a10 a11 a12 a13 (ln_up L id (l ++ (L x).flatMap (ln_gat m (ln_st k a b)))) → post 1 (hc, sc, lv, cl, pk, pv, oc, a1, a2, a3, a4, a5, a6, a7, a8, a9, a10, a11, a12, a13, a14, a15, a16, a17, a18, a19, a20, a21, a22, a23, a24, a25))
    (H0 : 48 < l.length + ((L x).flatMap (ln_gat m (ln_st k a b))).length → ∀ (l : List ln_T) (cl pk pv : Int32) (a10 a11 a12 a13 a19 : Nat → Int32), ln_pic a10 a11 a12 a13 (ln_up L id l) → post 0 (hc, sc, lv, cl, pk, pv, oc, a1, a2, a3, a4, a5, a6, a7, a8, a9, a10, a11, a12, a13, a14, a15, a16, a17, a18, a19, a20, a21, a22, a23, a24, a25)) :
    wpX_makeSteps post (hc, sc, lv, cl, pk, pv, oc, a1, a2, a3, a4, a5, a6, a7, a8, a9, a10, a11, a12, a13, a14, a15, a16, a17, a18, a19, a20, a21, a22, a23, a24, a25) (nI id) (nI m) := by
  have hlen := (hp x hx).2.1
  rw [ln_un hne] at hlen
  have e : (nI id).toNatClampNeg = id := nI_clamp (by omega)
  have ex : (nI x).toNatClampNeg = x := nI_clamp (by omega)
  have e0 : (0 : Int32).toNatClampNeg = 0 := rfl
  unfold wpX_makeSteps
  refine ⟨2, br_f (by decide) ⟨pk_in 0 16 (by decide), nm_r (e' := upd a19 0 (nI id)) (by rw [e0, ln_byN id (by omega)]) (nm_r (e' := nI 1) rfl ⟨pk_in id 16 hid, nm_r (e' := nI x) (by rw [e]; exact h4) ⟨pk_in x 16 hx, ?_⟩⟩)⟩⟩
  refine ln_isStep hc sc lv (nI 1) pk pv oc a1 a2 a3 a4 a5 a6 a7 a8 a9 a10 a11 a12 a13 a14 a15 a16 a17 a18 (upd a19 0 (nI id)) a20 a21 a22 a23 a24 a25 (k := kx) (by rw [ex]; exact h3x) (by omega) (fun z => by rw [hst] at z; exact absurd z (by decide)) (fun _ => br_t rfl ?_)
  refine br_t rfl (nm_r (ln_m48 x) ⟨49, ?_⟩)
  exact ln_step81 hc sc lv (nI 1) oc a1 a2 a3 a4 a5 a6 a7 a8 a9 a14 a15 a16 a17 a18 (upd a19 0 (nI id)) a20 a21 a22 a23 a24 a25 rfl hid hx hne hm h3 h5 h6 hk pk_us (L x) 49 0 l pk pv a10 a11 a12 a13 rfl (by omega) (by omega) hp (fun h pk pv a10 a11 a12 a13 hp => H1 h _ pk pv a10 a11 a12 a13 _ hp) (fun h l pk pv a10 a11 a12 a13 hp => H0 h l _ pk pv a10 a11 a12 a13 _ hp)
end
end
section
/-! makeJoin, makeFiltered -/
def ln_gk (m : Nat) (g : ln_T → List ln_T) (t : ln_T) : List ln_T := if m.testBit (t.2.1 % 4) = true then g t else []
theorem ln_gkT {m : Nat} {g : ln_T → List ln_T} {t : ln_T} (h : m.testBit (t.2.1 % 4) = true) : ln_gk m g t = g t := if_pos h
theorem ln_gkF {m : Nat} {g : ln_T → List ln_T} {t : ln_T} (h : m.testBit (t.2.1 % 4) = false) : ln_gk m g t = [] := if_neg (by rw [h]; decide)
def ln_jn (t : ln_T) (r : List ln_T) : List ln_T := (r.filter (fun s => s.2.1 == t.2.1)).map (fun s => (t.2.1 % 4, t.2.1, t.2.2 + s.2.2))
theorem ln_jnT {t s : ln_T} {r : List ln_T} (h : s.2.1 = t.2.1) : ln_jn t (s :: r) = (t.2.1 % 4, t.2.1, t.2.2 + s.2.2) :: ln_jn t r := by
  unfold ln_jn
  rw [List.filter_cons_of_pos (by simp [h])]
  rfl
theorem ln_jnF {t s : ln_T} {r : List ln_T} (h : s.2.1 ≠ t.2.1) : ln_jn t (s :: r) = ln_jn t r := by
  unfold ln_jn
  rw [List.filter_cons_of_neg (by simp [h])]
def ln_hit (k : Nat) (t s : ln_T) : Bool := s.2.1 == t.2.1 && (k == 9 || s.2.2 == t.2.2)
def ln_ff (k m : Nat) (oth : List ln_T → List ln_T) : List ln_T → List ln_T → List ln_T
  | [], l => l
  | t :: r, l => if m.testBit (t.2.1 % 4) = true ∧ (oth l).any (ln_hit k t) = false then ln_ff k m oth r (l ++ [(t.2.1 % 4, t.2.1, t.2.2)]) else ln_ff k m oth r l
theorem ln_ffT {k m : Nat} {oth : List ln_T → List ln_T} {t : ln_T} {r l : List ln_T} (h : m.testBit (t.2.1 % 4) = true) (h2 : (oth l).any (ln_hit k t) = false) : ln_ff k m oth (t :: r) l = ln_ff k m oth r (l ++ [(t.2.1 % 4, t.2.1, t.2.2)]) := by
  rw [ln_ff, if_pos ⟨h, h2⟩]
theorem ln_ffF {k m : Nat} {oth : List ln_T → List ln_T} {t : ln_T} {r l : List ln_T} (h : ¬ (m.testBit (t.2.1 % 4) = true ∧ (oth l).any (ln_hit k t) = false)) : ln_ff k m oth (t :: r) l = ln_ff k m oth r l := by
  rw [ln_ff, if_neg h]
theorem ln_ffle (k m : Nat) (oth : List ln_T → List ln_T) : ∀ r l : List ln_T, l.length ≤ (ln_ff k m oth r l).length := by
  intro r
  induction r with
  | nil => intro l; exact Nat.le_refl _
  | cons t r ih =>
    intro l
    rw [ln_ff]
    split
    · have := ih (l ++ [(t.2.1 % 4, t.2.1, t.2.2)])
      rw [List.length_append] at this
      omega
    · exact ih l
section
variable (hc sc lv cl pk pv oc : Int32) (a1 a2 a3 a4 a5 a6 a7 a8 a9 a10 a11 a12 a13 a14 a15 a16 a17 a18 a19 a20 a21 a22 a23 a24 a25 : Nat → Int32)
theorem ln_join68 {post : Int32 → St2 → Prop} {J : Int32 → Int32 → Int32 → Int32 → Int32 → Int32 → Int32 → Int32 → (Nat → Int32) → (Nat → Int32) → (Nat → Int32) → (Nat → Int32) → (Nat → Int32) → (Nat → Int32) → (Nat → Int32) → (Nat → Int32) → (Nat → Int32) → (Nat → Int32) → (Nat → Int32) → (Nat → Int32) → (Nat → Int32) → (Nat → Int32) → (Nat → Int32) → (Nat → Int32) → (Nat → Int32) → (Nat → Int32) → (Nat → Int32) → (Nat → Int32) → (Nat → Int32) → (Nat → Int32) → (Nat → Int32) → (Nat → Int32) → (Nat → Int32) → Prop} {L : Nat → List ln_T} {id x y m j : Nat} {t : ln_T} (hid : id < 16) (hx : x < 16) (hnx : x ≠ id) (hy : y < 16) (hny : y ≠ id) (hj : (L x)[j]? = some t) :
    ∀ (r : List ln_T) (f i : Nat) (l : List ln_T) (a10 a11 a12 a13 : Nat → Int32), (L y).drop i = r → r.length < f → i ≤ 48 → ln_pic a10 a11 a12 a13 (ln_up L id l) →
    (l.length + (ln_jn t r).length ≤ 48 → ∀ a10 a11 a12 a13 : Nat → Int32, ln_pic a10 a11 a12 a13 (ln_up L id (l ++ ln_jn t r)) → J (nI (48 * x + (j + 1))) hc sc lv cl pk pv oc a1 a2 a3 a4 a5 a6 a7 a8 a9 a10 a11 a12 a13 a14 a15 a16 a17 a18 a19 a20 a21 a22 a23 a24 a25) →
    (48 < l.length + (ln_jn t r).length → ∀ (l : List ln_T) (a10 a11 a12 a13 : Nat → Int32), ln_pic a10 a11 a12 a13 (ln_up L id l) → post 0 (hc, sc, lv, cl, pk, pv, oc, a1, a2, a3, a4, a5, a6, a7, a8, a9, a10, a11, a12, a13, a14, a15, a16, a17, a18, a19, a20, a21, a22, a23, a24, a25)) →
    wX_makeJoin_68 post J (nI id) (nI m) (nI x) (nI y) (nI (48 * x + j)) (nI (t.2.1 % 4)) f (nI (48 * y + i)) hc sc lv cl pk pv oc a1 a2 a3 a4 a5 a6 a7 a8 a9 a10 a11 a12 a13 a14 a15 a16 a17 a18 a19 a20 a21 a22 a23 a24 a25 := by
  intro r
  induction r with
  | nil =>
    intro f i l a10 a11 a12 a13 hr hf hi hp H1 H0
    obtain ⟨f, rfl⟩ : ∃ g, f = g + 1 := ⟨f - 1, by omega⟩
    rw [← ln_un (L := L) (x := l) hny] at hr
    refine ⟨pk_in y 16 hy, br_t (ln_hnil hp hy hi hr) (nm_r (ln_ad1 _ _) (H1 ?_ a10 a11 a12 a13 (by simpa [ln_jn] using hp)))⟩
    have := (hp id hid).2.1
    rw [ln_us] at this
    simpa [ln_jn] using this
  | cons s r ih =>
    intro f i l a10 a11 a12 a13 hr hf hi hp H1 H0
    obtain ⟨f, rfl⟩ : ∃ g, f = g + 1 := ⟨f - 1, by omega⟩
    rw [← ln_un (L := L) (x := l) hny] at hr
    obtain ⟨g1, g2, g3, g4, g5, g6, g7, g8, g9⟩ := ln_hcons hp hy hr
    rw [ln_un hny] at g9
    have hd := ln_dget hj
    rw [← ln_un (L := L) (x := l) hnx] at hd
    obtain ⟨x1, x2, x3, x4, x5, x6, x7, x8, x9⟩ := ln_hcons hp hx hd
    have hf' : r.length < f := by simp at hf; omega
    refine ⟨pk_in y 16 hy, br_f g1 ⟨g3, x3, ?_⟩⟩
    refine pk_eq s.2.1 t.2.1 (fun z => ⟨x3, x3, g3, ?_⟩) (fun z => nm_r (ln_ad1 _ _) ?_) (hx := g5) (hy := x5)
    · rw [ln_jnT z] at H1 H0
      refine ln_addPair hc sc lv cl pk pv oc a1 a2 a3 a4 a5 a6 a7 a8 a9 a10 a11 a12 a13 a14 a15 a16 a17 a18 a19 a20 a21 a22 a23 a24 a25 (L := L) (l := l) (q := t.2.1 % 4) (k := t.2.1) hp hid rfl x5 (by omega) x8 (fun hl a10 a11 a12 a13 hp => br_f (by decide) (nm_r (ln_ad1 _ _) ?_)) (fun hl => br_t rfl (H0 (by simp; omega) l a10 a11 a12 a13 hp))
      rw [x6, g6] at hp
      refine ih f (i + 1) _ a10 a11 a12 a13 g9 hf' (by omega) hp (fun h a10 a11 a12 a13 hp => H1 ?_ a10 a11 a12 a13 ?_) (fun h => H0 ?_)
      · simp only [List.length_append, List.length_cons, List.length_nil] at h ⊢; omega
      · rw [List.append_assoc] at hp
        exact hp
      · simp only [List.length_append, List.length_cons, List.length_nil] at h ⊢; omega
    · rw [ln_jnF z] at H1 H0
      exact ih f (i + 1) l a10 a11 a12 a13 g9 hf' (by omega) hp H1 H0
theorem ln_join21 {post : Int32 → St2 → Prop} {L : Nat → List ln_T} {id x y m : Nat} (hid : id < 16) (hx : x < 16) (hnx : x ≠ id) (hy : y < 16) (hny : y ≠ id) (hm : m < 16) :
    ∀ (r : List ln_T) (f j : Nat) (l : List ln_T) (a10 a11 a12 a13 : Nat → Int32), (L x).drop j = r → r.length < f → j ≤ 48 → ln_pic a10 a11 a12 a13 (ln_up L id l) →
    (l.length + (r.flatMap (ln_gk m (fun t => ln_jn t (L y)))).length ≤ 48 → ∀ a10 a11 a12 a13 : Nat → Int32, ln_pic a10 a11 a12 a13 (ln_up L id (l ++ r.flatMap (ln_gk m (fun t => ln_jn t (L y))))) → post 1 (hc, sc, lv, cl, pk, pv, oc, a1, a2, a3, a4, a5, a6, a7, a8, a9, a10, a11, a12, a13, a14, a15, a16, a17, a18, a19, a20, a21, a22, a23, a24, a25)) →
    (48 < l.length + (r.flatMap (ln_gk m (fun t => ln_jn t (L y)))).length → ∀ (l : List ln_T) (a10 a11 a12 a13 : Nat → Int32), ln_pic a10 a11 a12 a13 (ln_up L id l) → post 0 (hc, sc, lv, cl, pk, pv, oc, a1, a2, a3, a4, a5, a6, a7, a8, a9, a10, a11, a12, a13, a14, a15, a16, a17, a18, a19, a20, a21, a22, a23, a24, a25)) →
    wX_makeJoin_21 post (nI id) (nI m) (nI x) (nI y) f (nI (48 * x + j)) hc sc lv cl pk pv oc a1 a2 a3 a4 a5 a6 a7 a8 a9 a10 a11 a12 a13 a14 a15 a16 a17 a18 a19 a20 a21 a22 a23 a24 a25 := by
  intro r
  induction r with
  | nil =>
    intro f j l a10 a11 a12 a13 hr hf hj hp H1 H0
    obtain ⟨f, rfl⟩ : ∃ g, f = g + 1 := ⟨f - 1, by omega⟩
    rw [← ln_un (L := L) (x := l) hnx] at hr
    refine ⟨pk_in x 16 hx, br_t (ln_hnil hp hx hj hr) (H1 ?_ a10 a11 a12 a13 (by simpa using hp))⟩
    have := (hp id hid).2.1
    rw [ln_us] at this
    simpa using this
  | cons t r ih =>
    intro f j l a10 a11 a12 a13 hr hf hj hp H1 H0
    obtain ⟨f, rfl⟩ : ∃ g, f = g + 1 := ⟨f - 1, by omega⟩
    have hg := (ln_dcons hr).1
    have hlen := (hp y hy).2.1
    rw [ln_un hny] at hlen
    rw [← ln_un (L := L) (x := l) hnx] at hr
    obtain ⟨g1, g2, g3, g4, g5, g6, g7, g8, g9⟩ := ln_hcons hp hx hr
    rw [ln_un hnx] at g9
    have hf' : r.length < f := by simp at hf; omega
    refine ⟨pk_in x 16 hx, br_f g1 ⟨g3, nm_r (e' := nI (t.2.1 % 4)) (by rw [g5, ln_and3 _ (by omega)]) ?_⟩⟩
    rw [List.flatMap_cons] at H1 H0
    refine ln_isPart hc sc lv cl pk pv oc a1 a2 a3 a4 a5 a6 a7 a8 a9 a10 a11 a12 a13 a14 a15 a16 a17 a18 a19 a20 a21 a22 a23 a24 a25 rfl rfl hm (by omega) (fun z => br_f (by decide) (nm_r (ln_m48 y) ⟨49, ?_⟩)) (fun z => br_t rfl (nm_r (ln_ad1 _ _) ?_))
    · rw [ln_gkT z] at H1 H0
      refine ln_join68 hc sc lv cl pk pv oc a1 a2 a3 a4 a5 a6 a7 a8 a9 a14 a15 a16 a17 a18 a19 a20 a21 a22 a23 a24 a25 hid hx hnx hy hny hg (L y) 49 0 l a10 a11 a12 a13 rfl (by omega) (by omega) hp (fun hl a10 a11 a12 a13 hp => ?_) (fun hl => H0 ?_)
      · refine ih f (j + 1) _ a10 a11 a12 a13 g9 hf' (by omega) hp (fun h a10 a11 a12 a13 hp => H1 ?_ a10 a11 a12 a13 ?_) (fun h => H0 ?_)
        · simp only [List.length_append] at h ⊢; omega
        · rw [List.append_assoc] at hp
          exact hp
        · simp only [List.length_append] at h ⊢; omega
      · simp only [List.length_append]; omega
    · rw [ln_gkF z, List.nil_append] at H1 H0
      exact ih f (j + 1) l a10 a11 a12 a13 g9 hf' (by omega) hp H1 H0
theorem ln_makeJoin {post : Int32 → St2 → Prop} {L : Nat → List ln_T} {l : List ln_T} {id x y m : Nat} (h4 : a4 id = nI x) (h5 : a5 id = nI y) (hid : id < 16) (hx : x < 16) (hnx : x ≠ id) (hy : y < 16) (hny : y ≠ id) (hm : m < 16) (hp : ln_pic a10 a11 a12 a13 (ln_up L id l))
    (H1 : l.length + ((L x).flatMap (ln_gk m (fun t => ln_jn t (L y)))).length ≤ 48 → ∀ a10 a11 a12 a13 : Nat → Int32, ln_pic a10 a11 a12 a13 (ln_up L id (l ++ (L x).flatMap (ln_gk m (fun t => ln_jn t (L y))))) → post 1 (hc, sc, lv, cl, pk, pv, oc, a1, a2, a3, a4, a5, a6, a7, a8, a9, a10, a11, a12, a13, a14, a15, a16, a17, a18, a19, a20, a21, a22, a23, a24, a25))
    (H0 : 48 < l.length + ((L x).flatMap (ln_gk m (fun t => ln_jn t (L y)))).length → ∀ (l : List ln_T) (a10 a11 a12 a13 : Nat → Int32), ln_pic a10 a11 a12 a13 (ln_up L id l) → post 0 (hc, sc, lv, cl, pk, pv, oc, a1, a2, a3, a4, a5, a6, a7, a8, a9, a10, a11, a12, a13, a14, a15, a16, a17, a18, a19, a20, a21, a22, a23, a24, a25)) :
    wpX_makeJoin post (hc, sc, lv, cl, pk, pv, oc, a1, a2, a3, a4, a5, a6, a7, a8, a9, a10, a11, a12, a13, a14, a15, a16, a17, a18, a19, a20, a21, a22, a23, a24, a25) (nI id) (nI m) := by
  have hlen := (hp x hx).2.1
  rw [ln_un hnx] at hlen
  have e : (nI id).toNatClampNeg = id := nI_clamp (by omega)
  unfold wpX_makeJoin
  refine ⟨pk_in id 16 hid, nm_r (e' := nI x) (by rw [e]; exact h4) ⟨pk_in id 16 hid, nm_r (e' := nI y) (by rw [e]; exact h5) (nm_r (ln_m48 x) ⟨49, ?_⟩)⟩⟩
  exact ln_join21 hc sc lv cl pk pv oc a1 a2 a3 a4 a5 a6 a7 a8 a9 a14 a15 a16 a17 a18 a19 a20 a21 a22 a23 a24 a25 hid hx hnx hy hny hm (L x) 49 0 l a10 a11 a12 a13 rfl (by omega) (by omega) hp H1 H0
/-! makeFiltered -/
theorem ln_filt85 {post : Int32 → St2 → Prop} {J : Int32 → Int32 → Int32 → Int32 → Int32 → Int32 → Int32 → Int32 → (Nat → Int32) → (Nat → Int32) → (Nat → Int32) → (Nat → Int32) → (Nat → Int32) → (Nat → Int32) → (Nat → Int32) → (Nat → Int32) → (Nat → Int32) → (Nat → Int32) → (Nat → Int32) → (Nat → Int32) → (Nat → Int32) → (Nat → Int32) → (Nat → Int32) → (Nat → Int32) → (Nat → Int32) → (Nat → Int32) → (Nat → Int32) → (Nat → Int32) → (Nat → Int32) → (Nat → Int32) → (Nat → Int32) → (Nat → Int32) → (Nat → Int32) → Prop} {M : Nat → List ln_T} {id k m x y j : Nat} {t : ln_T} {w : Int32} (hk : k < 100) (hx : x < 16) (hy : y < 16) (hj : (M x)[j]? = some t) (hp : ln_pic a10 a11 a12 a13 M) :
    ∀ (r : List ln_T) (f i : Nat), (M y).drop i = r → r.length + 1 < f → i ≤ 48 →
    (r.any (ln_hit k t) = true → wX_makeFiltered_161 post J (nI id) (nI k) (nI m) (nI x) (nI y) (nI (48 * x + j)) w 1 hc sc lv cl pk pv oc a1 a2 a3 a4 a5 a6 a7 a8 a9 a10 a11 a12 a13 a14 a15 a16 a17 a18 a19 a20 a21 a22 a23 a24 a25) →
    (r.any (ln_hit k t) = false → wX_makeFiltered_161 post J (nI id) (nI k) (nI m) (nI x) (nI y) (nI (48 * x + j)) w 0 hc sc lv cl pk pv oc a1 a2 a3 a4 a5 a6 a7 a8 a9 a10 a11 a12 a13 a14 a15 a16 a17 a18 a19 a20 a21 a22 a23 a24 a25) →
    wX_makeFiltered_85 post J (nI id) (nI k) (nI m) (nI x) (nI y) (nI (48 * x + j)) w hc sc lv cl pk pv oc a1 a2 a3 a4 a5 a6 a7 a8 a9 a10 a11 a12 a13 a14 a15 a16 a17 a18 a19 a20 a21 a22 a23 a24 a25 f 0 (nI (48 * y + i)) := by
  obtain ⟨x1, x2, x3, x4, x5, x6, x7, x8, x9⟩ := ln_hcons hp hx (ln_dget hj)
  intro r
  induction r with
  | nil =>
    intro f i hr hf hi H1 H0
    obtain ⟨f, rfl⟩ : ∃ g, f = g + 1 := ⟨f - 1, by omega⟩
    exact ⟨pk_in y 16 hy, br_t (ln_hnil hp hy hi hr) (H0 rfl)⟩
  | cons s r ih =>
    intro f i hr hf hi H1 H0
    obtain ⟨f, rfl⟩ : ∃ g, f = g + 2 := ⟨f - 2, by simp at hf; omega⟩
    obtain ⟨g1, g2, g3, g4, g5, g6, g7, g8, g9⟩ := ln_hcons hp hy hr
    have hf' : r.length + 1 < f + 1 := by simp at hf; omega
    have G1 : ln_hit k t s = true → wX_makeFiltered_85 post J (nI id) (nI k) (nI m) (nI x) (nI y) (nI (48 * x + j)) w hc sc lv cl pk pv oc a1 a2 a3 a4 a5 a6 a7 a8 a9 a10 a11 a12 a13 a14 a15 a16 a17 a18 a19 a20 a21 a22 a23 a24 a25 (f + 1) 1 (nI (48 * y + (i + 1))) := by
      intro hh
      have G := H1 (by rw [List.any_cons, hh, Bool.true_or])
      exact ⟨pk_in y 16 hy, br_c (fun _ => G) (fun _ => br_f (by decide) G)⟩
    have G0 : ln_hit k t s = false → wX_makeFiltered_85 post J (nI id) (nI k) (nI m) (nI x) (nI y) (nI (48 * x + j)) w hc sc lv cl pk pv oc a1 a2 a3 a4 a5 a6 a7 a8 a9 a10 a11 a12 a13 a14 a15 a16 a17 a18 a19 a20 a21 a22 a23 a24 a25 (f + 1) 0 (nI (48 * y + (i + 1))) := by
      intro hh
      exact ih (f + 1) (i + 1) g9 hf' (by omega) (fun z => H1 (by rw [List.any_cons, z, Bool.or_true])) (fun z => H0 (by rw [List.any_cons, z, hh]; rfl))
    refine ⟨pk_in y 16 hy, br_f g1 (br_t rfl ⟨g3, x3, ?_⟩)⟩
    refine pk_eq s.2.1 t.2.1 (fun z => pk_eq k 9 (fun z9 => nm_r (ln_ad1 _ _) (G1 ?_)) (fun z9 => ⟨g3, x3, ?_⟩)) (fun z => nm_r (ln_ad1 _ _) (G0 ?_)) (hx := g5) (hy := x5)
    · simp [ln_hit, z, z9]
    · refine br_c (fun zv => nm_r (ln_ad1 _ _) (G1 ?_)) (fun zv => nm_r (ln_ad1 _ _) (G0 ?_))
      · rw [g6, x6] at zv
        simp [ln_hit, z, zv]
      · rw [g6, x6] at zv
        simp [ln_hit, z, z9, zv]
    · simp [ln_hit, z]
theorem ln_filt33 {post : Int32 → St2 → Prop} {L : Nat → List ln_T} {oth : List ln_T → List ln_T} {id k x y m : Nat} (hk : k < 100) (hid : id < 16) (hx : x < 16) (hnx : x ≠ id) (hy : y < 16) (hm : m < 16) (ho : ∀ l : List ln_T, ln_up L id l y = oth l) :
    ∀ (r : List ln_T) (f j : Nat) (l : List ln_T) (a10 a11 a12 a13 : Nat → Int32), (L x).drop j = r → r.length < f → j ≤ 48 → ln_pic a10 a11 a12 a13 (ln_up L id l) →
    ((ln_ff k m oth r l).length ≤ 48 → ∀ a10 a11 a12 a13 : Nat → Int32, ln_pic a10 a11 a12 a13 (ln_up L id (ln_ff k m oth r l)) → post 1 (hc, sc, lv, cl, pk, pv, oc, a1, a2, a3, a4, a5, a6, a7, a8, a9, a10, a11, a12, a13, a14, a15, a16, a17, a18, a19, a20, a21, a22, a23, a24, a25)) →
    (48 < (ln_ff k m oth r l).length → ∀ (l : List ln_T) (a10 a11 a12 a13 : Nat → Int32), ln_pic a10 a11 a12 a13 (ln_up L id l) → post 0 (hc, sc, lv, cl, pk, pv, oc, a1, a2, a3, a4, a5, a6, a7, a8, a9, a10, a11, a12, a13, a14, a15, a16, a17, a18, a19, a20, a21, a22, a23, a24, a25)) →
    wX_makeFiltered_33 post (nI id) (nI k) (nI m) (nI x) (nI y) f (nI (48 * x + j)) hc sc lv cl pk pv oc a1 a2 a3 a4 a5 a6 a7 a8 a9 a10 a11 a12 a13 a14 a15 a16 a17 a18 a19 a20 a21 a22 a23 a24 a25 := by
  intro r
  induction r with
  | nil =>
    intro f j l a10 a11 a12 a13 hr hf hj hp H1 H0
    obtain ⟨f, rfl⟩ : ∃ g, f = g + 1 := ⟨f - 1, by omega⟩
    rw [← ln_un (L := L) (x := l) hnx] at hr
    refine ⟨pk_in x 16 hx, br_t (ln_hnil hp hx hj hr) (H1 ?_ a10 a11 a12 a13 hp)⟩
    have := (hp id hid).2.1
    rw [ln_us] at this
    exact this
  | cons t r ih =>
    intro f j l a10 a11 a12 a13 hr hf hj hp H1 H0
    obtain ⟨f, rfl⟩ : ∃ g, f = g + 1 := ⟨f - 1, by omega⟩
    rw [← ln_un (L := L) (x := l) hnx] at hr
    have hg := (ln_dcons hr).1
    have hlen := (hp y hy).2.1
    obtain ⟨g1, g2, g3, g4, g5, g6, g7, g8, g9⟩ := ln_hcons hp hx hr
    rw [ln_un hnx] at g9
    have hf' : r.length < f := by simp at hf; omega
    refine ⟨pk_in x 16 hx, br_f g1 ⟨g3, nm_r (e' := nI (t.2.1 % 4)) (by rw [g5, ln_and3 _ (by omega)]) ?_⟩⟩
    refine ln_isPart hc sc lv cl pk pv oc a1 a2 a3 a4 a5 a6 a7 a8 a9 a10 a11 a12 a13 a14 a15 a16 a17 a18 a19 a20 a21 a22 a23 a24 a25 rfl rfl hm (by omega) (fun z => br_f (by decide) (nm_r (ln_m48 y) ⟨50, ?_⟩)) (fun z => br_t rfl (nm_r (ln_ad1 _ _) ?_))
    · refine ln_filt85 hc sc lv cl pk pv oc a1 a2 a3 a4 a5 a6 a7 a8 a9 a10 a11 a12 a13 a14 a15 a16 a17 a18 a19 a20 a21 a22 a23 a24 a25 hk hx hy hg hp (ln_up L id l y) 50 0 rfl (by omega) (by omega) (fun ha => ?_) (fun ha => ?_)
      · rw [ho] at ha
        rw [ln_ffF (by rw [ha]; simp)] at H1 H0
        unfold wX_makeFiltered_161
        exact br_f (by decide) (nm_r (ln_ad1 _ _) (ih f (j + 1) l a10 a11 a12 a13 g9 hf' (by omega) hp H1 H0))
      · rw [ho] at ha
        rw [ln_ffT z ha] at H1 H0
        unfold wX_makeFiltered_161
        refine br_t rfl ⟨g3, g3, ?_⟩
        refine ln_addPair hc sc lv cl pk pv oc a1 a2 a3 a4 a5 a6 a7 a8 a9 a10 a11 a12 a13 a14 a15 a16 a17 a18 a19 a20 a21 a22 a23 a24 a25 (L := L) (l := l) (q := t.2.1 % 4) (k := t.2.1) hp hid rfl g5 (by omega) g8 (fun hl a10 a11 a12 a13 hp => br_f (by decide) (nm_r (ln_ad1 _ _) ?_)) (fun hl => br_t rfl (H0 ?_ l a10 a11 a12 a13 hp))
        · rw [g6] at hp
          exact ih f (j + 1) _ a10 a11 a12 a13 g9 hf' (by omega) hp H1 H0
        · have := ln_ffle k m oth r (l ++ [(t.2.1 % 4, t.2.1, t.2.2)])
          rw [List.length_append] at this
          simp at this
          omega
    · rw [ln_ffF (by rw [z]; simp)] at H1 H0
      exact ih f (j + 1) l a10 a11 a12 a13 g9 hf' (by omega) hp H1 H0
theorem ln_makeDist {post : Int32 → St2 → Prop} {L : Nat → List ln_T} {l : List ln_T} {id x m : Nat} (h4 : a4 id = nI x) (hid : id < 16) (hx : x < 16) (hnx : x ≠ id) (hm : m < 16) (hp : ln_pic a10 a11 a12 a13 (ln_up L id l))
    (H1 : (ln_ff 8 m (fun l => l) (L x) l).length ≤ 48 → ∀ a10 a11 a12 a13 : Nat → Int32, ln_pic a10 a11 a12 a13 (ln_up L id (ln_ff 8 m (fun l => l) (L x) l)) → post 1 (hc, sc, lv, cl, pk, pv, oc, a1, a2, a3, a4, a5, a6, a7, a8, a9, a10, a11, a12, a13, a14, a15, a16, a17, a18, a19, a20, a21, a22, a23, a24, a25))
    (H0 : 48 < (ln_ff 8 m (fun l => l) (L x) l).length → ∀ (l : List ln_T) (a10 a11 a12 a13 : Nat → Int32), ln_pic a10 a11 a12 a13 (ln_up L id l) → post 0 (hc, sc, lv, cl, pk, pv, oc, a1, a2, a3, a4, a5, a6, a7, a8, a9, a10, a11, a12, a13, a14, a15, a16, a17, a18, a19, a20, a21, a22, a23, a24, a25)) :
    wpX_makeFiltered post (hc, sc, lv, cl, pk, pv, oc, a1, a2, a3, a4, a5, a6, a7, a8, a9, a10, a11, a12, a13, a14, a15, a16, a17, a18, a19, a20, a21, a22, a23, a24, a25) (nI id) (nI 8) (nI m) := by
  have hlen := (hp x hx).2.1
  rw [ln_un hnx] at hlen
  have e : (nI id).toNatClampNeg = id := nI_clamp (by omega)
  unfold wpX_makeFiltered
  refine ⟨pk_in id 16 hid, nm_r (e' := nI x) (by rw [e]; exact h4) (br_t rfl (nm_r (ln_m48 x) ⟨49, ?_⟩))⟩
  exact ln_filt33 hc sc lv cl pk pv oc a1 a2 a3 a4 a5 a6 a7 a8 a9 a14 a15 a16 a17 a18 a19 a20 a21 a22 a23 a24 a25 (by decide) hid hx hnx hid hm (fun l => ln_us L id l) (L x) 49 0 l a10 a11 a12 a13 rfl (by omega) (by omega) hp H1 H0
theorem ln_makeWo {post : Int32 → St2 → Prop} {L : Nat → List ln_T} {l : List ln_T} {id x y m : Nat} (h4 : a4 id = nI x) (h5 : a5 id = nI y) (hid : id < 16) (hx : x < 16) (hnx : x ≠ id) (hy : y < 16) (hny : y ≠ id) (hm : m < 16) (hp : ln_pic a10 a11 a12 a13 (ln_up L id l))
    (H1 : (ln_ff 9 m (fun _ => L y) (L x) l).length ≤ 48 → ∀ a10 a11 a12 a13 : Nat → Int32, ln_pic a10 a11 a12 a13 (ln_up L id (ln_ff 9 m (fun _ => L y) (L x) l)) → post 1 (hc, sc, lv, cl, pk, pv, oc, a1, a2, a3, a4, a5, a6, a7, a8, a9, a10, a11, a12, a13, a14, a15, a16, a17, a18, a19, a20, a21, a22, a23, a24, a25))
    (H0 : 48 < (ln_ff 9 m (fun _ => L y) (L x) l).length → ∀ (l : List ln_T) (a10 a11 a12 a13 : Nat → Int32), ln_pic a10 a11 a12 a13 (ln_up L id l) → post 0 (hc, sc, lv, cl, pk, pv, oc, a1, a2, a3, a4, a5, a6, a7, a8, a9, a10, a11, a12, a13, a14, a15, a16, a17, a18, a19, a20, a21, a22, a23, a24, a25)) :
    wpX_makeFiltered post (hc, sc, lv, cl, pk, pv, oc, a1, a2, a3, a4, a5, a6, a7, a8, a9, a10, a11, a12, a13, a14, a15, a16, a17, a18, a19, a20, a21, a22, a23, a24, a25) (nI id) (nI 9) (nI m) := by
  have hlen := (hp x hx).2.1
  rw [ln_un hnx] at hlen
  have e : (nI id).toNatClampNeg = id := nI_clamp (by omega)
  unfold wpX_makeFiltered
  refine ⟨pk_in id 16 hid, nm_r (e' := nI x) (by rw [e]; exact h4) (br_f (by decide) ⟨pk_in id 16 hid, nm_r (e' := nI y) (by rw [e]; exact h5) (nm_r (ln_m48 x) ⟨49, ?_⟩)⟩)⟩
  exact ln_filt33 hc sc lv cl pk pv oc a1 a2 a3 a4 a5 a6 a7 a8 a9 a14 a15 a16 a17 a18 a19 a20 a21 a22 a23 a24 a25 (by decide) hid hx hnx hy hm (fun l => ln_un hny) (L x) 49 0 l a10 a11 a12 a13 rfl (by omega) (by omega) hp H1 H0
end
end
section
/-! makeLast, makeSums -/
def ln_cb (i : Nat) (t : ln_T) (j : Nat) (s : ln_T) : Bool := decide (t.2.2 < s.2.2) || (s.2.2 == t.2.2 && (decide (t.2.1 < s.2.1) || (s.2.1 == t.2.1 && decide (i < j))))
def ln_bc (i : Nat) (t : ln_T) : List ln_T → Nat → Nat
  | [], _ => 0
  | s :: r, j => (if ln_cb i t j s = true then 1 else 0) + ln_bc i t r (j + 1)
def ln_ls (a : Int32) (full : List ln_T) : List ln_T → Nat → List ln_T
  | [], _ => []
  | t :: r, i => (if a ≤ nI (ln_bc i t full 0) then [] else [(0, t.2.1, t.2.2)]) ++ ln_ls a full r (i + 1)
theorem ln_bcle (i : Nat) (t : ln_T) : ∀ (r : List ln_T) (j : Nat), ln_bc i t r j ≤ r.length := by
  intro r
  induction r with
  | nil => intro j; exact Nat.le_refl _
  | cons s r ih =>
    intro j
    have := ih (j + 1)
    rw [ln_bc, List.length_cons]
    split <;> omega
theorem ln_i32ne {x y : Int32} (h : ¬ x = y) (h2 : ¬ x ≤ y) : y < x := by
  rw [Int32.lt_iff_toInt_lt]
  rw [Int32.le_iff_toInt_le] at h2
  omega
theorem ln_i32le {x y : Int32} (h : x ≤ y) : ¬ y < x := by
  rw [Int32.lt_iff_toInt_lt]
  rw [Int32.le_iff_toInt_le] at h
  omega
section
variable (hc sc lv cl pk pv oc : Int32) (a1 a2 a3 a4 a5 a6 a7 a8 a9 a10 a11 a12 a13 a14 a15 a16 a17 a18 a19 a20 a21 a22 a23 a24 a25 : Nat → Int32)
theorem ln_comesBehind {post : Int32 → Prop} {M : Nat → List ln_T} {x i j : Nat} {t s : ln_T} (hx : x < 16) (hp : ln_pic a10 a11 a12 a13 M) (hi : (M x)[i]? = some t) (hj : (M x)[j]? = some s)
    (H1 : ln_cb i t j s = true → post 1) (H0 : ln_cb i t j s = false → post 0) : wpX_comesBehind post (hc, sc, lv, cl, pk, pv, oc, a1, a2, a3, a4, a5, a6, a7, a8, a9, a10, a11, a12, a13, a14, a15, a16, a17, a18, a19, a20, a21, a22, a23, a24, a25) (nI (48 * x + j)) (nI (48 * x + i)) := by
  obtain ⟨x1, x2, x3, x4, x5, x6, x7, x8, x9⟩ := ln_hcons hp hx (ln_dget hi)
  obtain ⟨g1, g2, g3, g4, g5, g6, g7, g8, g9⟩ := ln_hcons hp hx (ln_dget hj)
  unfold wpX_comesBehind
  refine ⟨g3, x3, br_c (fun z => ⟨g3, x3, ?_⟩) (fun z => ⟨g3, x3, br_c (fun zl => H0 ?_) (fun zl => H1 ?_)⟩)⟩
  · rw [g6, x6] at z
    refine pk_eq s.2.1 t.2.1 (fun zk => pk_le (48 * x + j) (48 * x + i) (fun zi => H0 ?_) (fun zi => H1 ?_)) (fun zk => ⟨g3, x3, pk_le s.2.1 t.2.1 (fun zl => H0 ?_) (fun zl => H1 ?_) (hx := g5) (hy := x5)⟩) (hx := g5) (hy := x5)
    · have : ¬ i < j := by omega
      simp [ln_cb, z, zk, this, Int32.lt_irrefl]
    · have : i < j := by omega
      simp [ln_cb, z, zk, this]
    · have : ¬ t.2.1 < s.2.1 := by omega
      simp [ln_cb, z, zk, this, Int32.lt_irrefl]
    · simp [ln_cb, z, zl]
  · rw [g6, x6] at z zl
    simp [ln_cb, z, ln_i32le zl]
  · rw [g6, x6] at z zl
    simp [ln_cb, ln_i32ne z zl]
theorem ln_last48 {post : St2 → Prop} {J : Int32 → Int32 → Int32 → Int32 → Int32 → Int32 → Int32 → Int32 → (Nat → Int32) → (Nat → Int32) → (Nat → Int32) → (Nat → Int32) → (Nat → Int32) → (Nat → Int32) → (Nat → Int32) → (Nat → Int32) → (Nat → Int32) → (Nat → Int32) → (Nat → Int32) → (Nat → Int32) → (Nat → Int32) → (Nat → Int32) → (Nat → Int32) → (Nat → Int32) → (Nat → Int32) → (Nat → Int32) → (Nat → Int32) → (Nat → Int32) → (Nat → Int32) → (Nat → Int32) → (Nat → Int32) → (Nat → Int32) → (Nat → Int32) → Prop} {L : Nat → List ln_T} {l : List ln_T} {id x i : Nat} {a : Int32} {t : ln_T} (hid : id < 16) (hx : x < 16) (hnx : x ≠ id) (h5 : a5 id = a) (hi : (L x)[i]? = some t) (hp : ln_pic a10 a11 a12 a13 (ln_up L id l)) (hfit : l.length < 48) :
    ∀ (r : List ln_T) (f j c : Nat), (L x).drop j = r → r.length < f → j ≤ 48 → c ≤ j →
    (∀ a10 a11 a12 a13 : Nat → Int32, ln_pic a10 a11 a12 a13 (ln_up L id (l ++ (if a ≤ nI (c + ln_bc i t r j) then [] else [(0, t.2.1, t.2.2)]))) → J (nI (48 * x + (i + 1))) hc sc lv cl pk pv oc a1 a2 a3 a4 a5 a6 a7 a8 a9 a10 a11 a12 a13 a14 a15 a16 a17 a18 a19 a20 a21 a22 a23 a24 a25) →
    wX_makeLast_48 post J (nI id) (nI x) (nI (48 * x + i)) hc sc lv cl pk pv oc a1 a2 a3 a4 a5 a6 a7 a8 a9 a10 a11 a12 a13 a14 a15 a16 a17 a18 a19 a20 a21 a22 a23 a24 a25 f (nI c) (nI (48 * x + j)) := by
  have hi' : (ln_up L id l x)[i]? = some t := by rw [ln_un hnx]; exact hi
  obtain ⟨x1, x2, x3, x4, x5, x6, x7, x8, x9⟩ := ln_hcons hp hx (ln_dget hi')
  have e : (nI id).toNatClampNeg = id := nI_clamp (by omega)
  intro r
  induction r with
  | nil =>
    intro f j c hr hf hj hcj H
    obtain ⟨f, rfl⟩ : ∃ g, f = g + 1 := ⟨f - 1, by omega⟩
    rw [← ln_un (L := L) (x := l) hnx] at hr
    refine ⟨pk_in x 16 hx, br_t (ln_hnil hp hx hj hr) ⟨pk_in id 16 hid, br_c (fun z => nm_r (ln_ad1 _ _) (H a10 a11 a12 a13 ?_)) (fun z => ⟨x3, x3, ?_⟩)⟩⟩
    · rw [e, h5] at z
      rw [if_pos (by exact z), List.append_nil]
      exact hp
    · rw [e, h5] at z
      refine ln_addPair hc sc lv cl pk pv oc a1 a2 a3 a4 a5 a6 a7 a8 a9 a10 a11 a12 a13 a14 a15 a16 a17 a18 a19 a20 a21 a22 a23 a24 a25 (L := L) (l := l) (q := 0) (k := t.2.1) hp hid rfl x5 (by decide) x8 (fun hl a10 a11 a12 a13 hp => nm_r (ln_ad1 _ _) (H a10 a11 a12 a13 ?_)) (fun hl => absurd hl (by omega))
      rw [if_neg (by exact z)]
      rw [x6] at hp
      exact hp
  | cons s r ih =>
    intro f j c hr hf hj hcj H
    obtain ⟨f, rfl⟩ : ∃ g, f = g + 1 := ⟨f - 1, by omega⟩
    rw [← ln_un (L := L) (x := l) hnx] at hr
    have hg := (ln_dcons hr).1
    obtain ⟨g1, g2, g3, g4, g5, g6, g7, g8, g9⟩ := ln_hcons hp hx hr
    rw [ln_un hnx] at g9
    have hf' : r.length < f := by simp at hf; omega
    rw [ln_bc] at H
    refine ⟨pk_in x 16 hx, br_f g1 ?_⟩
    refine ln_comesBehind hc sc lv cl pk pv oc a1 a2 a3 a4 a5 a6 a7 a8 a9 a10 a11 a12 a13 a14 a15 a16 a17 a18 a19 a20 a21 a22 a23 a24 a25 hx hp hi' hg (fun z => br_f (by decide) (nm_r (nI_1 c) (nm_r (ln_ad1 _ _) ?_))) (fun z => br_t rfl (nm_r (ln_ad1 _ _) ?_))
    · refine ih f (j + 1) (c + 1) g9 hf' (by omega) (by omega) (fun a10 a11 a12 a13 hp => H a10 a11 a12 a13 ?_)
      rw [if_pos z, show c + (1 + ln_bc i t r (j + 1)) = c + 1 + ln_bc i t r (j + 1) by omega]
      exact hp
    · refine ih f (j + 1) c g9 hf' (by omega) (by omega) (fun a10 a11 a12 a13 hp => H a10 a11 a12 a13 ?_)
      rw [if_neg (show ¬ ln_cb i t j s = true by rw [z]; decide), Nat.zero_add]
      exact hp
theorem ln_last23 {post : St2 → Prop} {L : Nat → List ln_T} {id x : Nat} {a : Int32} (hid : id < 16) (hx : x < 16) (hnx : x ≠ id) (h5 : a5 id = a) (h24 : (L x).length ≤ 24) :
    ∀ (r : List ln_T) (f i : Nat) (l : List ln_T) (a10 a11 a12 a13 : Nat → Int32), (L x).drop i = r → r.length < f → i ≤ 48 → l.length + r.length ≤ 48 → ln_pic a10 a11 a12 a13 (ln_up L id l) →
    (∀ a10 a11 a12 a13 : Nat → Int32, ln_pic a10 a11 a12 a13 (ln_up L id (l ++ ln_ls a (L x) r i)) → post (hc, sc, lv, cl, pk, pv, oc, a1, a2, a3, a4, a5, a6, a7, a8, a9, a10, a11, a12, a13, a14, a15, a16, a17, a18, a19, a20, a21, a22, a23, a24, a25)) →
    wX_makeLast_23 post (nI id) (nI x) f (nI (48 * x + i)) hc sc lv cl pk pv oc a1 a2 a3 a4 a5 a6 a7 a8 a9 a10 a11 a12 a13 a14 a15 a16 a17 a18 a19 a20 a21 a22 a23 a24 a25 := by
  intro r
  induction r with
  | nil =>
    intro f i l a10 a11 a12 a13 hr hf hi hl hp H
    obtain ⟨f, rfl⟩ : ∃ g, f = g + 1 := ⟨f - 1, by omega⟩
    rw [← ln_un (L := L) (x := l) hnx] at hr
    exact ⟨pk_in x 16 hx, br_t (ln_hnil hp hx hi hr) (H a10 a11 a12 a13 (by rw [ln_ls, List.append_nil]; exact hp))⟩
  | cons t r ih =>
    intro f i l a10 a11 a12 a13 hr hf hi hl hp H
    obtain ⟨f, rfl⟩ : ∃ g, f = g + 1 := ⟨f - 1, by omega⟩
    have hg := (ln_dcons hr).1
    rw [← ln_un (L := L) (x := l) hnx] at hr
    obtain ⟨g1, g2, g3, g4, g5, g6, g7, g8, g9⟩ := ln_hcons hp hx hr
    rw [ln_un hnx] at g9
    have hf' : r.length < f := by simp at hf; omega
    rw [List.length_cons] at hl
    refine ⟨pk_in x 16 hx, br_f g1 (nm_r (ln_m48 x) ⟨25, ?_⟩)⟩
    refine ln_last48 hc sc lv cl pk pv oc a1 a2 a3 a4 a5 a6 a7 a8 a9 a10 a11 a12 a13 a14 a15 a16 a17 a18 a19 a20 a21 a22 a23 a24 a25 hid hx hnx h5 hg hp (by omega) (L x) 25 0 0 rfl (by omega) (by omega) (by omega) (fun a10 a11 a12 a13 hp => ?_)
    rw [Nat.zero_add] at hp
    refine ih f (i + 1) _ a10 a11 a12 a13 g9 hf' (by omega) ?_ hp (fun a10 a11 a12 a13 hp => H a10 a11 a12 a13 ?_)
    · rw [List.length_append]
      split
      · simp; omega
      · simp; omega
    · rw [ln_ls, ← List.append_assoc]
      exact hp
theorem ln_makeLast {post : St2 → Prop} {L : Nat → List ln_T} {l : List ln_T} {id x m : Nat} {a : Int32} (h4 : a4 id = nI x) (hid : id < 16) (hx : x < 16) (hnx : x ≠ id) (hm : m < 16) (h5 : a5 id = a) (h24 : (L x).length ≤ 24) (hl : l.length ≤ 24) (hp : ln_pic a10 a11 a12 a13 (ln_up L id l))
    (H1 : m.testBit 0 = true → ∀ a10 a11 a12 a13 : Nat → Int32, ln_pic a10 a11 a12 a13 (ln_up L id (l ++ ln_ls a (L x) (L x) 0)) → post (hc, sc, lv, cl, pk, pv, oc, a1, a2, a3, a4, a5, a6, a7, a8, a9, a10, a11, a12, a13, a14, a15, a16, a17, a18, a19, a20, a21, a22, a23, a24, a25))
    (H0 : m.testBit 0 = false → post (hc, sc, lv, cl, pk, pv, oc, a1, a2, a3, a4, a5, a6, a7, a8, a9, a10, a11, a12, a13, a14, a15, a16, a17, a18, a19, a20, a21, a22, a23, a24, a25)) : wpX_makeLast post (hc, sc, lv, cl, pk, pv, oc, a1, a2, a3, a4, a5, a6, a7, a8, a9, a10, a11, a12, a13, a14, a15, a16, a17, a18, a19, a20, a21, a22, a23, a24, a25) (nI id) (nI m) := by
  have e : (nI id).toNatClampNeg = id := nI_clamp (by omega)
  unfold wpX_makeLast
  refine ln_isPart hc sc lv cl pk pv oc a1 a2 a3 a4 a5 a6 a7 a8 a9 a10 a11 a12 a13 a14 a15 a16 a17 a18 a19 a20 a21 a22 a23 a24 a25 (q := 0) rfl rfl hm (by decide) (fun z => br_f (by decide) ⟨pk_in id 16 hid, nm_r (e' := nI x) (by rw [e]; exact h4) (nm_r (ln_m48 x) ⟨25, ?_⟩)⟩) (fun z => br_t rfl (H0 z))
  exact ln_last23 hc sc lv cl pk pv oc a1 a2 a3 a4 a5 a6 a7 a8 a9 a14 a15 a16 a17 a18 a19 a20 a21 a22 a23 a24 a25 hid hx hnx h5 h24 (L x) 25 0 l a10 a11 a12 a13 rfl (by omega) (by omega) (by omega) hp (H1 z)
end
/-! sums -/
def ln_ky (k : Nat) (t : ln_T) : Bool := t.2.1 == k
def ln_sm (f : ln_T → Int32) : List ln_T → Int32
  | [] => 0
  | t :: r => f t + ln_sm f r
theorem ln_sm_app (f : ln_T → Int32) (l r : List ln_T) : ln_sm f (l ++ r) = ln_sm f l + ln_sm f r := by
  induction l with
  | nil => show ln_sm f r = 0 + ln_sm f r; rw [Int32.zero_add]
  | cons t l ih => show f t + ln_sm f (l ++ r) = f t + ln_sm f l + ln_sm f r; rw [ih, Int32.add_assoc]
def ln_ak (h s : Nat → Int32) (f : ln_T → Int32) (l : List ln_T) (k : Nat) : Prop := (l.filter (ln_ky k) = [] ∧ h k = 0) ∨ (l.filter (ln_ky k) ≠ [] ∧ h k = 1 ∧ s k = ln_sm f (l.filter (ln_ky k)))
def ln_hv (a : Int32) (t : ln_T) : Int32 := if a = 3 then 1 else t.2.2
theorem ln_ak_other {h s : Nat → Int32} {f : ln_T → Int32} {l : List ln_T} {k : Nat} {t : ln_T} {x y : Int32} (hk : k ≠ t.2.1) (A : ln_ak h s f l k) : ln_ak (upd h t.2.1 x) (upd s t.2.1 y) f (l ++ [t]) k := by
  have e : (l ++ [t]).filter (ln_ky k) = l.filter (ln_ky k) := by
    rw [List.filter_append, List.filter_cons_of_neg (by simp [ln_ky]; omega), List.filter_nil, List.append_nil]
  unfold ln_ak
  rw [e, pk_un hk, pk_un hk]
  exact A
theorem ln_ak_same {h s : Nat → Int32} {f : ln_T → Int32} {l : List ln_T} {t : ln_T} {y : Int32} (hy : y = ln_sm f (l.filter (ln_ky t.2.1)) + f t) : ln_ak (upd h t.2.1 1) (upd s t.2.1 y) f (l ++ [t]) t.2.1 := by
  have e : (l ++ [t]).filter (ln_ky t.2.1) = l.filter (ln_ky t.2.1) ++ [t] := by
    rw [List.filter_append, List.filter_cons_of_pos (by simp [ln_ky]), List.filter_nil]
  right
  rw [e, pk_us, pk_us, ln_sm_app]
  refine ⟨by simp, rfl, ?_⟩
  rw [hy]
  show _ = _ + (f t + 0)
  rw [Int32.add_zero]
section
variable (hc sc lv cl pk pv oc : Int32) (a1 a2 a3 a4 a5 a6 a7 a8 a9 a10 a11 a12 a13 a14 a15 a16 a17 a18 a19 a20 a21 a22 a23 a24 a25 : Nat → Int32)
theorem ln_added {post : Int32 → Prop} {a x y : Int32} (h1 : ¬ a = 1) (h2 : ¬ a = 2) (H : post (x + y)) : wpX_added post (hc, sc, lv, cl, pk, pv, oc, a1, a2, a3, a4, a5, a6, a7, a8, a9, a10, a11, a12, a13, a14, a15, a16, a17, a18, a19, a20, a21, a22, a23, a24, a25) a x y := by
  unfold wpX_added
  exact br_f h1 (br_f h2 H)
theorem ln_addLocal {post : St2 → Prop} {f : ln_T → Int32} {l : List ln_T} {t : ln_T} {a x y : Int32} (h1 : ¬ a = 1) (h2 : ¬ a = 2) (hx : x = nI t.2.1) (hy : y = f t) (ht : t.2.1 < 16) (A : ∀ k, k < 16 → ln_ak a20 a21 f l k)
    (H : ∀ a20 a21 : Nat → Int32, (∀ k, k < 16 → ln_ak a20 a21 f (l ++ [t]) k) → post (hc, sc, lv, cl, pk, pv, oc, a1, a2, a3, a4, a5, a6, a7, a8, a9, a10, a11, a12, a13, a14, a15, a16, a17, a18, a19, a20, a21, a22, a23, a24, a25)) : wpX_addLocal post (hc, sc, lv, cl, pk, pv, oc, a1, a2, a3, a4, a5, a6, a7, a8, a9, a10, a11, a12, a13, a14, a15, a16, a17, a18, a19, a20, a21, a22, a23, a24, a25) x y a := by
  subst hx hy
  have e : (nI t.2.1).toNatClampNeg = t.2.1 := nI_clamp (by omega)
  have hi : vp_in (nI t.2.1) 16 := pk_in _ 16 ht
  have key : ∀ y, y = ln_sm f (l.filter (ln_ky t.2.1)) + f t → ∀ k, k < 16 → ln_ak (upd a20 t.2.1 1) (upd a21 t.2.1 y) f (l ++ [t]) k := by
    intro y hy k hk
    by_cases hkt : k = t.2.1
    · rw [hkt]; exact ln_ak_same hy
    · exact ln_ak_other hkt (A k hk)
  unfold wpX_addLocal
  refine ⟨hi, br_c (fun z => ⟨hi, nm_r (e' := upd a21 t.2.1 (f t)) (by rw [e]) ⟨hi, nm_r (e' := upd a20 t.2.1 1) (by rw [e]) (H _ _ (key _ ?_))⟩⟩) (fun z => ⟨hi, ?_⟩)⟩
  · rw [e] at z
    rcases A _ ht with ⟨A1, A2⟩ | ⟨A1, A2, A3⟩
    · rw [A1]; show f t = 0 + f t; rw [Int32.zero_add]
    · rw [A2] at z; exact absurd z (by decide)
  · rw [e] at z
    refine ln_added hc sc lv cl pk pv oc a1 a2 a3 a4 a5 a6 a7 a8 a9 a10 a11 a12 a13 a14 a15 a16 a17 a18 a19 a20 a21 a22 a23 a24 a25 h1 h2 ⟨hi, nm_r (e' := upd a21 t.2.1 (a21 t.2.1 + f t)) (by rw [e]) ⟨hi, nm_r (e' := upd a20 t.2.1 1) (by rw [e]) (H _ _ (key _ ?_))⟩⟩
    rcases A _ ht with ⟨A1, A2⟩ | ⟨A1, A2, A3⟩
    · exact absurd A2 z
    · rw [A3]
theorem ln_addSum {post : St2 → Prop} {f : ln_T → Int32} {l1 l2 : List ln_T} {k : Nat} {a x : Int32} (h1 : ¬ a = 1) (h2 : ¬ a = 2) (hx : x = nI k) (hk : k < 16) (A1 : ln_ak a22 a23 f l1 k) (A2 : ln_ak a20 a21 f l2 k) (hz : ¬ a20 k = 0)
    (H : ∀ y : Int32, y = ln_sm f ((l1 ++ l2).filter (ln_ky k)) → (l1 ++ l2).filter (ln_ky k) ≠ [] → post (hc, sc, lv, cl, pk, pv, oc, a1, a2, a3, a4, a5, a6, a7, a8, a9, a10, a11, a12, a13, a14, a15, a16, a17, a18, a19, a20, a21, upd a22 k 1, upd a23 k y, a24, a25)) : wpX_addSum post (hc, sc, lv, cl, pk, pv, oc, a1, a2, a3, a4, a5, a6, a7, a8, a9, a10, a11, a12, a13, a14, a15, a16, a17, a18, a19, a20, a21, a22, a23, a24, a25) x a := by
  subst hx
  have e : (nI k).toNatClampNeg = k := nI_clamp (by omega)
  have hi : vp_in (nI k) 16 := pk_in _ 16 hk
  have hl2 : l2.filter (ln_ky k) ≠ [] ∧ a20 k = 1 ∧ a21 k = ln_sm f (l2.filter (ln_ky k)) := by
    rcases A2 with ⟨B1, B2⟩ | B
    · exact absurd B2 hz
    · exact B
  obtain ⟨B1, B2, B3⟩ := hl2
  have hne : (l1 ++ l2).filter (ln_ky k) ≠ [] := by
    rw [List.filter_append]
    intro h
    exact B1 (List.append_eq_nil_iff.mp h).2
  unfold wpX_addSum
  refine ⟨hi, br_c (fun z => ⟨hi, hi, nm_r (e' := upd a23 k (a21 k)) (by rw [e]) ⟨hi, nm_r (e' := upd a22 k 1) (by rw [e]) (H _ ?_ hne)⟩⟩) (fun z => ⟨hi, hi, ?_⟩)⟩
  · rw [e] at z
    rcases A1 with ⟨C1, C2⟩ | ⟨C1, C2, C3⟩
    · rw [List.filter_append, C1, List.nil_append, B3]
    · rw [C2] at z; exact absurd z (by decide)
  · rw [e] at z
    refine ln_added hc sc lv cl pk pv oc a1 a2 a3 a4 a5 a6 a7 a8 a9 a10 a11 a12 a13 a14 a15 a16 a17 a18 a19 a20 a21 a22 a23 a24 a25 h1 h2 ⟨hi, nm_r (e' := upd a23 k (a23 k + a21 k)) (by rw [e]) ⟨hi, nm_r (e' := upd a22 k 1) (by rw [e]) (H _ ?_ hne)⟩⟩
    rcases A1 with ⟨C1, C2⟩ | ⟨C1, C2, C3⟩
    · exact absurd C2 z
    · rw [List.filter_append, ln_sm_app, C3, B3]
end
end
section
/-! makeSums -/
def ln_rk (m : Nat) (f : ln_T → Int32) (M : List ln_T) (k : Nat) : List ln_T := if (M.filter (ln_ky k)).isEmpty = true then [] else if m.testBit (k % 4) = true then [(k % 4, k, ln_sm f (M.filter (ln_ky k)))] else []
def ln_rd (m : Nat) (f : ln_T → Int32) (M : List ln_T) : List ln_T := (List.range' 0 16).flatMap (ln_rk m f M)
def ln_sel (rn p : Nat) (t : ln_T) : Bool := rn == 1 || t.1 == p
def ln_ct (l : List ln_T) (rn : Nat) : Nat → List ln_T
  | 0 => []
  | p + 1 => ln_ct l rn p ++ l.filter (ln_sel rn p)
theorem ln_sm_perm {f : ln_T → Int32} {l r : List ln_T} (h : l.Perm r) : ln_sm f l = ln_sm f r := by
  induction h with
  | nil => rfl
  | cons t _ ih => show f t + _ = f t + _; rw [ih]
  | swap t s l => show f s + (f t + ln_sm f l) = f t + (f s + ln_sm f l); rw [← Int32.add_assoc, ← Int32.add_assoc, Int32.add_comm (f s)]
  | trans _ _ h1 h2 => rw [h1, h2]
theorem ln_rk_perm {m : Nat} {f : ln_T → Int32} {l r : List ln_T} (h : l.Perm r) (k : Nat) : ln_rk m f l k = ln_rk m f r k := by
  have hf : (l.filter (ln_ky k)).Perm (r.filter (ln_ky k)) := h.filter _
  unfold ln_rk
  rw [ln_sm_perm hf, hf.isEmpty_eq]
theorem ln_rd_perm {m : Nat} {f : ln_T → Int32} {l r : List ln_T} (h : l.Perm r) : ln_rd m f l = ln_rd m f r := by
  unfold ln_rd
  congr 1
  funext k
  exact ln_rk_perm h k
theorem ln_ct_perm {l : List ln_T} (h : ∀ t, t ∈ l → t.1 < 4) : (ln_ct l 4 4).Perm l := by
  rw [List.perm_iff_count]
  intro t
  have key : ∀ p, (l.filter (ln_sel 4 p)).count t = if t.1 = p then l.count t else 0 := by
    intro p
    by_cases hp : t.1 = p
    · rw [if_pos hp, List.count_filter (by simp [ln_sel, hp])]
    · rw [if_neg hp, List.count_eq_zero]
      intro hm
      have := (List.mem_filter.mp hm).2
      simp [ln_sel] at this
      exact hp this
  simp only [ln_ct, List.count_append, key, List.count_nil]
  by_cases hm : t ∈ l
  · have := h t hm
    have h4 : t.1 = 0 ∨ t.1 = 1 ∨ t.1 = 2 ∨ t.1 = 3 := by omega
    rcases h4 with e | e | e | e <;> simp [e]
  · rw [List.count_eq_zero.mpr hm]
    simp
theorem ln_ct_1 (l : List ln_T) : ln_ct l 1 1 = l := by
  simp [ln_ct, ln_sel]
section
variable (hc sc lv cl pk pv oc : Int32) (a1 a2 a3 a4 a5 a6 a7 a8 a9 a10 a11 a12 a13 a14 a15 a16 a17 a18 a19 a20 a21 a22 a23 a24 a25 : Nat → Int32)
theorem ln_sum207 {post : St2 → Prop} {L : Nat → List ln_T} {M : List ln_T} {f : ln_T → Int32} {id m : Nat} (hid : id < 16) (hm : m < 16) (A : ∀ k, k < 16 → ln_ak a22 a23 f M k) :
    ∀ (c fu i : Nat) (l : List ln_T) (a10 a11 a12 a13 : Nat → Int32), i + c = 16 → c < fu → l.length + ((List.range' i c).flatMap (ln_rk m f M)).length ≤ 48 → ln_pic a10 a11 a12 a13 (ln_up L id l) →
    (∀ a10 a11 a12 a13 : Nat → Int32, ln_pic a10 a11 a12 a13 (ln_up L id (l ++ (List.range' i c).flatMap (ln_rk m f M))) → post (hc, sc, lv, cl, pk, pv, oc, a1, a2, a3, a4, a5, a6, a7, a8, a9, a10, a11, a12, a13, a14, a15, a16, a17, a18, a19, a20, a21, a22, a23, a24, a25)) →
    wX_makeSums_207 post (nI id) (nI m) fu (nI i) hc sc lv cl pk pv oc a1 a2 a3 a4 a5 a6 a7 a8 a9 a10 a11 a12 a13 a14 a15 a16 a17 a18 a19 a20 a21 a22 a23 a24 a25 := by
  intro c
  induction c with
  | zero =>
    intro fu i l a10 a11 a12 a13 hi hf hfit hp H
    obtain ⟨fu, rfl⟩ : ∃ g, fu = g + 1 := ⟨fu - 1, by omega⟩
    exact pk_le 16 i (fun _ => H a10 a11 a12 a13 (by simpa using hp)) (fun z => absurd z (by omega))
  | succ c ih =>
    intro fu i l a10 a11 a12 a13 hi hf hfit hp H
    obtain ⟨fu, rfl⟩ : ∃ g, fu = g + 1 := ⟨fu - 1, by omega⟩
    have e : (nI i).toNatClampNeg = i := nI_clamp (by omega)
    have e3 : nI i &&& 3 = nI (i % 4) := ln_and3 i (by omega)
    rw [List.range'_succ, List.flatMap_cons] at hfit H
    refine pk_le 16 i (fun z => absurd z (by omega)) (fun _ => ⟨pk_in i 16 (by omega), br_c (fun z => nm_r (nI_1 i) ?_) (fun z => ?_)⟩)
    · rw [e] at z
      have hk : ln_rk m f M i = [] := by
        rcases A i (by omega) with ⟨B1, B2⟩ | ⟨B1, B2, B3⟩
        · simp [ln_rk, B1]
        · rw [B2] at z; exact absurd z (by decide)
      rw [hk, List.nil_append] at hfit H
      exact ih fu (i + 1) l a10 a11 a12 a13 (by omega) (by omega) hfit hp H
    · rw [e] at z
      obtain ⟨B1, B2, B3⟩ : M.filter (ln_ky i) ≠ [] ∧ a22 i = 1 ∧ a23 i = ln_sm f (M.filter (ln_ky i)) := by
        rcases A i (by omega) with ⟨B1, B2⟩ | B
        · exact absurd B2 z
        · exact B
      refine ln_isPart hc sc lv cl pk pv oc a1 a2 a3 a4 a5 a6 a7 a8 a9 a10 a11 a12 a13 a14 a15 a16 a17 a18 a19 a20 a21 a22 a23 a24 a25 rfl e3 hm (by omega) (fun w => br_f (by decide) ⟨pk_in i 16 (by omega), ?_⟩) (fun w => br_t rfl (nm_r (nI_1 i) ?_))
      · have hk : ln_rk m f M i = [(i % 4, i, ln_sm f (M.filter (ln_ky i)))] := by
          unfold ln_rk
          rw [if_neg (by simpa using B1), if_pos w]
        rw [hk] at hfit H
        refine ln_addPair hc sc lv cl pk pv oc a1 a2 a3 a4 a5 a6 a7 a8 a9 a10 a11 a12 a13 a14 a15 a16 a17 a18 a19 a20 a21 a22 a23 a24 a25 (L := L) (l := l) (q := i % 4) (k := i) hp hid e3 rfl (by omega) (by omega) (fun hl a10 a11 a12 a13 hp => nm_r (nI_1 i) ?_) (fun hl => absurd hfit (by simp; omega))
        rw [e, B3] at hp
        refine ih fu (i + 1) _ a10 a11 a12 a13 (by omega) (by omega) ?_ hp (fun a10 a11 a12 a13 hp => H a10 a11 a12 a13 ?_)
        · simp only [List.length_append] at hfit ⊢; omega
        · rw [List.append_assoc] at hp
          exact hp
      · have hk : ln_rk m f M i = [] := by
          unfold ln_rk
          rw [if_neg (by simpa using B1), if_neg (by rw [w]; decide)]
        rw [hk, List.nil_append] at hfit H
        exact ih fu (i + 1) l a10 a11 a12 a13 (by omega) (by omega) hfit hp H
theorem ln_sum167 {post : St2 → Prop} {J : Int32 → Int32 → Int32 → Int32 → Int32 → Int32 → Int32 → Int32 → (Nat → Int32) → (Nat → Int32) → (Nat → Int32) → (Nat → Int32) → (Nat → Int32) → (Nat → Int32) → (Nat → Int32) → (Nat → Int32) → (Nat → Int32) → (Nat → Int32) → (Nat → Int32) → (Nat → Int32) → (Nat → Int32) → (Nat → Int32) → (Nat → Int32) → (Nat → Int32) → (Nat → Int32) → (Nat → Int32) → (Nat → Int32) → (Nat → Int32) → (Nat → Int32) → (Nat → Int32) → (Nat → Int32) → (Nat → Int32) → (Nat → Int32) → Prop} {f : ln_T → Int32} {l1 l2 : List ln_T} {x1 x2 x3 x5 a : Int32} {p : Nat} (h1 : ¬ a = 1) (h2 : ¬ a = 2) (A2 : ∀ k, k < 16 → ln_ak a20 a21 f l2 k)
    (H : ∀ a22 a23 : Nat → Int32, (∀ k, k < 16 → ln_ak a22 a23 f (l1 ++ l2) k) → J (nI (p + 1)) hc sc lv cl pk pv oc a1 a2 a3 a4 a5 a6 a7 a8 a9 a10 a11 a12 a13 a14 a15 a16 a17 a18 a19 a20 a21 a22 a23 a24 a25) :
    ∀ (c fu i : Nat) (a22 a23 : Nat → Int32), i + c = 16 → c < fu → (∀ k, k < i → ln_ak a22 a23 f (l1 ++ l2) k) → (∀ k, i ≤ k → k < 16 → ln_ak a22 a23 f l1 k) →
    wX_makeSums_167 post J x1 x2 x3 a x5 (nI p) fu (nI i) hc sc lv cl pk pv oc a1 a2 a3 a4 a5 a6 a7 a8 a9 a10 a11 a12 a13 a14 a15 a16 a17 a18 a19 a20 a21 a22 a23 a24 a25 := by
  intro c
  induction c with
  | zero =>
    intro fu i a22 a23 hi hf B1 B2
    obtain ⟨fu, rfl⟩ : ∃ g, fu = g + 1 := ⟨fu - 1, by omega⟩
    exact pk_le 16 i (fun _ => nm_r (nI_1 p) (H a22 a23 (fun k hk => B1 k (by omega)))) (fun z => absurd z (by omega))
  | succ c ih =>
    intro fu i a22 a23 hi hf B1 B2
    obtain ⟨fu, rfl⟩ : ∃ g, fu = g + 1 := ⟨fu - 1, by omega⟩
    have e : (nI i).toNatClampNeg = i := nI_clamp (by omega)
    refine pk_le 16 i (fun z => absurd z (by omega)) (fun _ => ⟨pk_in i 16 (by omega), br_c (fun z => nm_r (nI_1 i) ?_) (fun z => ?_)⟩)
    · rw [e] at z
      refine ih fu (i + 1) a22 a23 (by omega) (by omega) (fun k hk => ?_) (fun k hk hk2 => B2 k (by omega) hk2)
      by_cases hki : k = i
      · subst hki
        rcases A2 k (by omega) with ⟨C1, C2⟩ | ⟨C1, C2, C3⟩
        · unfold ln_ak
          rw [List.filter_append, C1, List.append_nil]
          exact B2 k (Nat.le_refl _) (by omega)
        · rw [C2] at z; exact absurd z (by decide)
      · exact B1 k (by omega)
    · rw [e] at z
      refine ln_addSum hc sc lv cl pk pv oc a1 a2 a3 a4 a5 a6 a7 a8 a9 a10 a11 a12 a13 a14 a15 a16 a17 a18 a19 a20 a21 a22 a23 a24 a25 h1 h2 rfl (by omega) (B2 i (Nat.le_refl _) (by omega)) (A2 i (by omega)) z (fun y hy hne => nm_r (nI_1 i) ?_)
      refine ih fu (i + 1) _ _ (by omega) (by omega) (fun k hk => ?_) (fun k hk hk2 => ?_)
      · by_cases hki : k = i
        · subst hki
          right
          rw [pk_us, pk_us]
          exact ⟨hne, rfl, hy⟩
        · unfold ln_ak
          rw [pk_un hki, pk_un hki]
          exact B1 k (by omega)
      · unfold ln_ak
        rw [pk_un (by omega), pk_un (by omega)]
        exact B2 k (by omega) hk2
theorem ln_sum94 {post : St2 → Prop} {J : Int32 → Int32 → Int32 → Int32 → Int32 → Int32 → Int32 → Int32 → (Nat → Int32) → (Nat → Int32) → (Nat → Int32) → (Nat → Int32) → (Nat → Int32) → (Nat → Int32) → (Nat → Int32) → (Nat → Int32) → (Nat → Int32) → (Nat → Int32) → (Nat → Int32) → (Nat → Int32) → (Nat → Int32) → (Nat → Int32) → (Nat → Int32) → (Nat → Int32) → (Nat → Int32) → (Nat → Int32) → (Nat → Int32) → (Nat → Int32) → (Nat → Int32) → (Nat → Int32) → (Nat → Int32) → (Nat → Int32) → (Nat → Int32) → Prop} {M : Nat → List ln_T} {l1 : List ln_T} {x1 x2 a : Int32} {x rn p : Nat} (h1 : ¬ a = 1) (h2 : ¬ a = 2) (hx : x < 16) (hrn : rn < 100) (hpp : p < 100) (hp : ln_pic a10 a11 a12 a13 M) (A1 : ∀ k, k < 16 → ln_ak a22 a23 (ln_hv a) l1 k)
    (H : ∀ a20 a21 a22 a23 : Nat → Int32, (∀ k, k < 16 → ln_ak a22 a23 (ln_hv a) (l1 ++ (M x).filter (ln_sel rn p)) k) → J (nI (p + 1)) hc sc lv cl pk pv oc a1 a2 a3 a4 a5 a6 a7 a8 a9 a10 a11 a12 a13 a14 a15 a16 a17 a18 a19 a20 a21 a22 a23 a24 a25) :
    ∀ (r : List ln_T) (fu j : Nat) (l : List ln_T) (a20 a21 : Nat → Int32), (M x).drop j = r → r.length < fu → j ≤ 48 → (∀ k, k < 16 → ln_ak a20 a21 (ln_hv a) l k) → l ++ r.filter (ln_sel rn p) = (M x).filter (ln_sel rn p) →
    wX_makeSums_94 post J x1 x2 (nI x) a (nI rn) (nI p) fu (nI (48 * x + j)) hc sc lv cl pk pv oc a1 a2 a3 a4 a5 a6 a7 a8 a9 a10 a11 a12 a13 a14 a15 a16 a17 a18 a19 a20 a21 a22 a23 a24 a25 := by
  intro r
  induction r with
  | nil =>
    intro fu j l a20 a21 hr hf hj A2 hl
    obtain ⟨fu, rfl⟩ : ∃ g, fu = g + 1 := ⟨fu - 1, by omega⟩
    refine ⟨pk_in x 16 hx, br_t (ln_hnil hp hx hj hr) ⟨17, ?_⟩⟩
    rw [List.filter_nil, List.append_nil] at hl
    rw [← hl] at H
    exact ln_sum167 hc sc lv cl pk pv oc a1 a2 a3 a4 a5 a6 a7 a8 a9 a10 a11 a12 a13 a14 a15 a16 a17 a18 a19 a20 a21 a24 a25 h1 h2 A2 (H a20 a21) 16 17 0 a22 a23 (by omega) (by omega) (fun k hk => absurd hk (by omega)) (fun k _ hk => A1 k hk)
  | cons t r ih =>
    intro fu j l a20 a21 hr hf hj A2 hl
    obtain ⟨fu, rfl⟩ : ∃ g, fu = g + 1 := ⟨fu - 1, by omega⟩
    obtain ⟨g1, g2, g3, g4, g5, g6, g7, g8, g9⟩ := ln_hcons hp hx hr
    have hf' : r.length < fu := by simp at hf; omega
    have G : ln_sel rn p t = true → wX_makeSums_128 post J (wX_makeSums_94 post J x1 x2 (nI x) a (nI rn) (nI p) fu) x1 x2 (nI x) a (nI rn) (nI p) (nI (48 * x + j)) hc sc lv cl pk pv oc a1 a2 a3 a4 a5 a6 a7 a8 a9 a10 a11 a12 a13 a14 a15 a16 a17 a18 a19 a20 a21 a22 a23 a24 a25 := by
      intro hs
      have go : ∀ v : Int32, v = ln_hv a t → wX_makeSums_153 post J (wX_makeSums_94 post J x1 x2 (nI x) a (nI rn) (nI p) fu) x1 x2 (nI x) a (nI rn) (nI p) (nI (48 * x + j)) v (a12 (nI (48 * x + j)).toNatClampNeg) hc sc lv cl pk pv oc a1 a2 a3 a4 a5 a6 a7 a8 a9 a10 a11 a12 a13 a14 a15 a16 a17 a18 a19 a20 a21 a22 a23 a24 a25 := by
        intro v hv
        unfold wX_makeSums_153
        refine ln_addLocal hc sc lv cl pk pv oc a1 a2 a3 a4 a5 a6 a7 a8 a9 a10 a11 a12 a13 a14 a15 a16 a17 a18 a19 a20 a21 a22 a23 a24 a25 (t := t) h1 h2 g5 hv g8 A2 (fun a20 a21 A2 => nm_r (ln_ad1 _ _) ?_)
        refine ih fu (j + 1) _ a20 a21 g9 hf' (by omega) A2 ?_
        rw [← hl, List.filter_cons_of_pos hs, List.append_assoc]
        rfl
      unfold wX_makeSums_128
      refine ⟨g3, br_c (fun z => go _ ?_) (fun z => ⟨g3, go _ ?_⟩)⟩
      · rw [ln_hv, if_pos z]
      · rw [ln_hv, if_neg z, g6]
    refine ⟨pk_in x 16 hx, br_f g1 (pk_eq rn 1 (fun z => G ?_) (fun z => ⟨g3, pk_eq t.1 p (fun zp => G ?_) (fun zp => nm_r (ln_ad1 _ _) ?_) (hx := g4)⟩))⟩
    · simp [ln_sel, z]
    · simp [ln_sel, zp]
    · refine ih fu (j + 1) l a20 a21 g9 hf' (by omega) A2 ?_
      rw [← hl, List.filter_cons_of_neg (by simp [ln_sel, z, zp])]
theorem ln_sum67 {post : St2 → Prop} {J : Int32 → Int32 → Int32 → Int32 → Int32 → Int32 → Int32 → Int32 → (Nat → Int32) → (Nat → Int32) → (Nat → Int32) → (Nat → Int32) → (Nat → Int32) → (Nat → Int32) → (Nat → Int32) → (Nat → Int32) → (Nat → Int32) → (Nat → Int32) → (Nat → Int32) → (Nat → Int32) → (Nat → Int32) → (Nat → Int32) → (Nat → Int32) → (Nat → Int32) → (Nat → Int32) → (Nat → Int32) → (Nat → Int32) → (Nat → Int32) → (Nat → Int32) → (Nat → Int32) → (Nat → Int32) → (Nat → Int32) → (Nat → Int32) → Prop} {M : Nat → List ln_T} {l1 : List ln_T} {x1 x2 a : Int32} {x rn p : Nat} (h1 : ¬ a = 1) (h2 : ¬ a = 2) (hx : x < 16) (hrn : rn < 100) (hpp : p < 100) (hp : ln_pic a10 a11 a12 a13 M) (A1 : ∀ k, k < 16 → ln_ak a22 a23 (ln_hv a) l1 k)
    (H : ∀ a20 a21 a22 a23 : Nat → Int32, (∀ k, k < 16 → ln_ak a22 a23 (ln_hv a) (l1 ++ (M x).filter (ln_sel rn p)) k) → J (nI (p + 1)) hc sc lv cl pk pv oc a1 a2 a3 a4 a5 a6 a7 a8 a9 a10 a11 a12 a13 a14 a15 a16 a17 a18 a19 a20 a21 a22 a23 a24 a25) :
    ∀ (c fu i : Nat) (a20 : Nat → Int32), i + c = 16 → c < fu → (∀ k, k < i → a20 k = 0) → wX_makeSums_67 post J x1 x2 (nI x) a (nI rn) (nI p) hc sc lv cl pk pv oc fu (nI i) a1 a2 a3 a4 a5 a6 a7 a8 a9 a10 a11 a12 a13 a14 a15 a16 a17 a18 a19 a20 a21 a22 a23 a24 a25 := by
  intro c
  induction c with
  | zero =>
    intro fu i a20 hi hf hz
    obtain ⟨fu, rfl⟩ : ∃ g, fu = g + 1 := ⟨fu - 1, by omega⟩
    have hlen := (hp x hx).2.1
    refine pk_le 16 i (fun _ => nm_r (ln_m48 x) ⟨49, ?_⟩) (fun z => absurd z (by omega))
    exact ln_sum94 hc sc lv cl pk pv oc a1 a2 a3 a4 a5 a6 a7 a8 a9 a10 a11 a12 a13 a14 a15 a16 a17 a18 a19 a22 a23 a24 a25 h1 h2 hx hrn hpp hp A1 H (M x) 49 0 [] a20 a21 rfl (by omega) (by omega) (fun k hk => Or.inl ⟨rfl, hz k (by omega)⟩) rfl
  | succ c ih =>
    intro fu i a20 hi hf hz
    obtain ⟨fu, rfl⟩ : ∃ g, fu = g + 1 := ⟨fu - 1, by omega⟩
    have e : (nI i).toNatClampNeg = i := nI_clamp (by omega)
    refine pk_le 16 i (fun z => absurd z (by omega)) (fun _ => ⟨pk_in i 16 (by omega), nm_e (nm_r (nI_1 i) ?_)⟩)
    rw [e]
    refine ih fu (i + 1) _ (by omega) (by omega) (fun k hk => ?_)
    by_cases h : k = i
    · rw [h, pk_us]
    · rw [pk_un h]; exact hz k (by omega)
theorem ln_sum57 {post : St2 → Prop} {L : Nat → List ln_T} {l : List ln_T} {a : Int32} {id x m rn : Nat} (h1 : ¬ a = 1) (h2 : ¬ a = 2) (hid : id < 16) (hx : x < 16) (hnx : x ≠ id) (hm : m < 16) (hrn : rn < 100) (hct : (ln_ct (L x) rn rn).Perm (L x)) (hp : ln_pic a10 a11 a12 a13 (ln_up L id l)) (hfit : l.length + (ln_rd m (ln_hv a) (L x)).length ≤ 48)
    (H : ∀ a10 a11 a12 a13 a20 a21 a22 a23 : Nat → Int32, ln_pic a10 a11 a12 a13 (ln_up L id (l ++ ln_rd m (ln_hv a) (L x))) → post (hc, sc, lv, cl, pk, pv, oc, a1, a2, a3, a4, a5, a6, a7, a8, a9, a10, a11, a12, a13, a14, a15, a16, a17, a18, a19, a20, a21, a22, a23, a24, a25)) :
    ∀ (c fu p : Nat) (a20 a21 a22 a23 : Nat → Int32), p + c = rn → c < fu → (∀ k, k < 16 → ln_ak a22 a23 (ln_hv a) (ln_ct (L x) rn p) k) →
    wX_makeSums_57 post (nI id) (nI m) (nI x) a (nI rn) fu (nI p) hc sc lv cl pk pv oc a1 a2 a3 a4 a5 a6 a7 a8 a9 a10 a11 a12 a13 a14 a15 a16 a17 a18 a19 a20 a21 a22 a23 a24 a25 := by
  intro c
  induction c with
  | zero =>
    intro fu p a20 a21 a22 a23 hi hf A
    obtain ⟨fu, rfl⟩ : ∃ g, fu = g + 1 := ⟨fu - 1, by omega⟩
    have hpr : p = rn := by omega
    subst hpr
    have hrd : ln_rd m (ln_hv a) (L x) = (List.range' 0 16).flatMap (ln_rk m (ln_hv a) (ln_ct (L x) p p)) := (ln_rd_perm hct).symm
    refine pk_le p p (fun _ => ⟨17, ?_⟩) (fun z => absurd z (by omega))
    rw [hrd] at hfit H
    exact ln_sum207 hc sc lv cl pk pv oc a1 a2 a3 a4 a5 a6 a7 a8 a9 a14 a15 a16 a17 a18 a19 a20 a21 a22 a23 a24 a25 hid hm A 16 17 0 l a10 a11 a12 a13 (by omega) (by omega) hfit hp (fun a10 a11 a12 a13 hp => H a10 a11 a12 a13 a20 a21 a22 a23 hp)
  | succ c ih =>
    intro fu p a20 a21 a22 a23 hi hf A
    obtain ⟨fu, rfl⟩ : ∃ g, fu = g + 1 := ⟨fu - 1, by omega⟩
    refine pk_le rn p (fun z => absurd z (by omega)) (fun _ => ⟨17, ?_⟩)
    refine ln_sum67 hc sc lv cl pk pv oc a1 a2 a3 a4 a5 a6 a7 a8 a9 a10 a11 a12 a13 a14 a15 a16 a17 a18 a19 a21 a22 a23 a24 a25 (M := ln_up L id l) h1 h2 hx hrn (by omega) hp A (fun a20 a21 a22 a23 A => ?_) 16 17 0 a20 (by omega) (by omega) (fun k hk => absurd hk (by omega))
    rw [ln_un hnx] at A
    exact ih fu (p + 1) a20 a21 a22 a23 (by omega) (by omega) A
theorem ln_sum18 {post : St2 → Prop} {L : Nat → List ln_T} {l : List ln_T} {a : Int32} {id x m : Nat} (h1 : ¬ a = 1) (h2 : ¬ a = 2) (hid : id < 16) (hx : x < 16) (hnx : x ≠ id) (hm : m < 16) (hp : ln_pic a10 a11 a12 a13 (ln_up L id l)) (hfit : l.length + (ln_rd m (ln_hv a) (L x)).length ≤ 48)
    (H : ∀ a10 a11 a12 a13 a20 a21 a22 a23 : Nat → Int32, ln_pic a10 a11 a12 a13 (ln_up L id (l ++ ln_rd m (ln_hv a) (L x))) → post (hc, sc, lv, cl, pk, pv, oc, a1, a2, a3, a4, a5, a6, a7, a8, a9, a10, a11, a12, a13, a14, a15, a16, a17, a18, a19, a20, a21, a22, a23, a24, a25)) :
    ∀ (c fu i : Nat) (a22 : Nat → Int32), i + c = 16 → c < fu → (∀ k, k < i → a22 k = 0) → wX_makeSums_18 post (nI id) (nI m) (nI x) a hc sc lv cl pk pv oc fu (nI i) a1 a2 a3 a4 a5 a6 a7 a8 a9 a10 a11 a12 a13 a14 a15 a16 a17 a18 a19 a20 a21 a22 a23 a24 a25 := by
  have h4 : ∀ t, t ∈ L x → t.1 < 4 := by
    intro t ht
    obtain ⟨i, hi⟩ := List.mem_iff_getElem?.mp ht
    have := (hp x hx).2.2 i t (by rw [ln_un hnx]; exact hi)
    exact this.2.2.2.1
  intro c
  induction c with
  | zero =>
    intro fu i a22 hi hf hz
    obtain ⟨fu, rfl⟩ : ∃ g, fu = g + 1 := ⟨fu - 1, by omega⟩
    have A : ∀ k, k < 16 → ln_ak a22 a23 (ln_hv a) [] k := fun k hk => Or.inl ⟨rfl, hz k (by omega)⟩
    refine pk_le 16 i (fun _ => br_c (fun _ => ⟨5, ?_⟩) (fun _ => ⟨2, ?_⟩)) (fun z => absurd z (by omega))
    · exact ln_sum57 hc sc lv cl pk pv oc a1 a2 a3 a4 a5 a6 a7 a8 a9 a10 a11 a12 a13 a14 a15 a16 a17 a18 a19 a24 a25 (rn := 4) h1 h2 hid hx hnx hm (by decide) (ln_ct_perm h4) hp hfit H 4 5 0 a20 a21 a22 a23 (by omega) (by omega) A
    · exact ln_sum57 hc sc lv cl pk pv oc a1 a2 a3 a4 a5 a6 a7 a8 a9 a10 a11 a12 a13 a14 a15 a16 a17 a18 a19 a24 a25 (rn := 1) h1 h2 hid hx hnx hm (by decide) (by rw [ln_ct_1]) hp hfit H 1 2 0 a20 a21 a22 a23 (by omega) (by omega) A
  | succ c ih =>
    intro fu i a22 hi hf hz
    obtain ⟨fu, rfl⟩ : ∃ g, fu = g + 1 := ⟨fu - 1, by omega⟩
    have e : (nI i).toNatClampNeg = i := nI_clamp (by omega)
    refine pk_le 16 i (fun z => absurd z (by omega)) (fun _ => ⟨pk_in i 16 (by omega), nm_e (nm_r (nI_1 i) ?_)⟩)
    rw [e]
    refine ih fu (i + 1) _ (by omega) (by omega) (fun k hk => ?_)
    by_cases h : k = i
    · rw [h, pk_us]
    · rw [pk_un h]; exact hz k (by omega)
theorem ln_makeSums {post : St2 → Prop} {L : Nat → List ln_T} {l : List ln_T} {a : Int32} {id x m : Nat} (h4 : a4 id = nI x) (h5 : a5 id = a) (h1 : ¬ a = 1) (h2 : ¬ a = 2) (hid : id < 16) (hx : x < 16) (hnx : x ≠ id) (hm : m < 16) (hp : ln_pic a10 a11 a12 a13 (ln_up L id l)) (hfit : l.length + (ln_rd m (ln_hv a) (L x)).length ≤ 48)
    (H : ∀ a10 a11 a12 a13 a20 a21 a22 a23 : Nat → Int32, ln_pic a10 a11 a12 a13 (ln_up L id (l ++ ln_rd m (ln_hv a) (L x))) → post (hc, sc, lv, cl, pk, pv, oc, a1, a2, a3, a4, a5, a6, a7, a8, a9, a10, a11, a12, a13, a14, a15, a16, a17, a18, a19, a20, a21, a22, a23, a24, a25)) : wpX_makeSums post (hc, sc, lv, cl, pk, pv, oc, a1, a2, a3, a4, a5, a6, a7, a8, a9, a10, a11, a12, a13, a14, a15, a16, a17, a18, a19, a20, a21, a22, a23, a24, a25) (nI id) (nI m) := by
  have e : (nI id).toNatClampNeg = id := nI_clamp (by omega)
  unfold wpX_makeSums
  refine ⟨pk_in id 16 hid, nm_r (e' := nI x) (by rw [e]; exact h4) ⟨pk_in id 16 hid, nm_r (e' := a) (by rw [e]; exact h5) ⟨17, ?_⟩⟩⟩
  exact ln_sum18 hc sc lv cl pk pv oc a1 a2 a3 a4 a5 a6 a7 a8 a9 a10 a11 a12 a13 a14 a15 a16 a17 a18 a19 a20 a21 a23 a24 a25 h1 h2 hid hx hnx hm hp hfit H 16 17 0 a22 (by omega) (by omega) (fun k hk => absurd hk (by omega))
end
end
section
/-! what the sets hold; parts -/
def ln_pt (q : Nat) (t : ln_T) : Bool := t.1 == q
def ln_kq (q : Nat) (t : ln_T) : Bool := t.2.1 % 4 == q
theorem ln_fself {l : List ln_T} {p : ln_T → Bool} (h : ∀ s, s ∈ l → p s = true) : l.filter p = l := List.filter_eq_self.mpr h
theorem ln_fnil {l : List ln_T} {p : ln_T → Bool} (h : ∀ s, s ∈ l → p s = false) : l.filter p = [] := List.filter_eq_nil_iff.mpr (fun s hs => by rw [h s hs]; decide)
/-- lists that go pair by pair, the part kept -/
theorem ln_flt_nar {g : ln_T → List ln_T} {q : Nat} : ∀ {l : List ln_T}, (∀ t, t ∈ l → ∀ s, s ∈ g t → s.1 = t.1) → (l.flatMap g).filter (ln_pt q) = (l.filter (ln_pt q)).flatMap g := by
  intro l
  induction l with
  | nil => intro _; rfl
  | cons t l ih =>
    intro h
    rw [List.flatMap_cons, List.filter_append, ih (fun t' ht' => h t' (List.mem_cons_of_mem _ ht'))]
    have ht := h t List.mem_cons_self
    by_cases hq : t.1 = q
    · rw [List.filter_cons_of_pos (by simp [ln_pt, hq]), List.flatMap_cons, ln_fself (fun s hs => by simp [ln_pt, ht s hs, hq])]
    · rw [List.filter_cons_of_neg (by simp [ln_pt, hq]), ln_fnil (fun s hs => by simp [ln_pt, ht s hs, hq]), List.nil_append]
theorem ln_flt_gat {g : ln_T → List ln_T} {m q : Nat} (h : ∀ t s, s ∈ g t → s.1 = t.1) (l : List ln_T) : (l.flatMap (ln_gat m g)).filter (ln_pt q) = if m.testBit q = true then (l.filter (ln_pt q)).flatMap g else [] := by
  rw [ln_flt_nar (fun t _ s hs => by
    unfold ln_gat at hs
    split at hs
    · exact h t s hs
    · simp at hs)]
  induction l with
  | nil => simp
  | cons t l ih =>
    by_cases hq : t.1 = q
    · rw [List.filter_cons_of_pos (by simp [ln_pt, hq]), List.flatMap_cons, List.flatMap_cons, ih]
      cases hm : m.testBit q with
      | true => rw [ln_gatT (by rw [hq]; exact hm)]; simp
      | false => rw [ln_gatF (by rw [hq]; exact hm)]; simp
    · rw [List.filter_cons_of_neg (by simp [ln_pt, hq])]
      exact ih
theorem ln_flt_gk {g : ln_T → List ln_T} {m q : Nat} (h : ∀ t s, s ∈ g t → s.1 = t.2.1 % 4) (l : List ln_T) : (l.flatMap (ln_gk m g)).filter (ln_pt q) = if m.testBit q = true then (l.flatMap g).filter (ln_pt q) else [] := by
  induction l with
  | nil => simp
  | cons t l ih =>
    rw [List.flatMap_cons, List.filter_append, ih, List.flatMap_cons, List.filter_append]
    have ht := h t
    by_cases hq : t.2.1 % 4 = q
    · cases hm : m.testBit q with
      | true => rw [ln_gkT (by rw [hq]; exact hm)]; simp
      | false => rw [ln_gkF (by rw [hq]; exact hm)]; simp
    · have e1 : (g t).filter (ln_pt q) = [] := ln_fnil (fun s hs => by simp [ln_pt, ht s hs, hq])
      have e2 : (ln_gk m g t).filter (ln_pt q) = [] := by
        unfold ln_gk
        split
        · exact e1
        · rfl
      rw [e1, e2, List.nil_append, List.nil_append]
theorem ln_flt_rd {f : ln_T → Int32} {M : List ln_T} {m q : Nat} (hq : q < 4) : (ln_rd m f M).filter (ln_pt q) = if m.testBit q = true then (ln_rd 15 f M).filter (ln_pt q) else [] := by
  unfold ln_rd
  generalize List.range' 0 16 = ks
  induction ks with
  | nil => simp
  | cons k ks ih =>
    rw [List.flatMap_cons, List.filter_append, ih, List.flatMap_cons, List.filter_append]
    by_cases hk : k % 4 = q
    · have h15 := ln_b15 q hq
      cases hm : m.testBit q with
      | true => simp [ln_rk, hk, hm, h15]
      | false => simp [ln_rk, hk, hm]
    · have e : ∀ m, (ln_rk m f M k).filter (ln_pt q) = [] := by
        intro m
        unfold ln_rk
        split
        · rfl
        · split
          · exact ln_fnil (fun s hs => by
              have := List.mem_singleton.mp hs
              subst this
              simp [ln_pt, hk])
          · rfl
      rw [e, e, List.nil_append, List.nil_append]
theorem ln_flt_ff {k m q : Nat} {oth : List ln_T → List ln_T} (hq : q < 4) (ho : ∀ (l : List ln_T) (t : ln_T), (∀ s, s ∈ l → s.1 = s.2.1 % 4) → (oth l).any (ln_hit k t) = (oth (l.filter (ln_pt (t.2.1 % 4)))).any (ln_hit k t)) :
    ∀ (r l : List ln_T), (∀ s, s ∈ l → s.1 = s.2.1 % 4) → (ln_ff k m oth r l).filter (ln_pt q) = if m.testBit q = true then ln_ff k 15 oth (r.filter (ln_kq q)) (l.filter (ln_pt q)) else l.filter (ln_pt q) := by
  intro r
  induction r with
  | nil => intro l _; simp [ln_ff]
  | cons t r ih =>
    intro l hl
    have hl' : ∀ s, s ∈ l ++ [(t.2.1 % 4, t.2.1, t.2.2)] → s.1 = s.2.1 % 4 := by
      intro s hs
      rcases List.mem_append.mp hs with h | h
      · exact hl s h
      · have := List.mem_singleton.mp h
        subst this
        rfl
    by_cases hk : t.2.1 % 4 = q
    · rw [List.filter_cons_of_pos (by simp [ln_kq, hk])]
      have h15 : (15 : Nat).testBit (t.2.1 % 4) = true := by rw [hk]; exact ln_b15 q hq
      have ho' := ho l t hl
      rw [hk] at ho'
      cases hm : m.testBit q with
      | true =>
        cases ha : (oth l).any (ln_hit k t) with
        | true =>
          rw [ln_ffF (by rw [ha]; simp), ln_ffF (by rw [← ho', ha]; simp), ih l hl, hm]
        | false =>
          rw [ln_ffT (by rw [hk]; exact hm) ha, ln_ffT h15 (by rw [← ho', ha]), ih _ hl', hm, List.filter_append]
          rw [ln_fself (l := [(t.2.1 % 4, t.2.1, t.2.2)]) (fun s hs => by
            have := List.mem_singleton.mp hs
            subst this
            simp [ln_pt, hk])]
          rw [if_pos rfl, if_pos rfl]
      | false =>
        rw [ln_ffF (by rw [hk, hm]; simp), ih l hl, hm]
        simp
    · rw [List.filter_cons_of_neg (by simp [ln_kq, hk])]
      rw [ln_ff]
      split
      · rw [ih _ hl', List.filter_append, ln_fnil (l := [(t.2.1 % 4, t.2.1, t.2.2)]) (fun s hs => by
            have := List.mem_singleton.mp hs
            subst this
            simp [ln_pt, hk]), List.append_nil]
      · exact ih l hl
theorem ln_oth8 : ∀ (l : List ln_T) (t : ln_T), (∀ s, s ∈ l → s.1 = s.2.1 % 4) → l.any (ln_hit 8 t) = (l.filter (ln_pt (t.2.1 % 4))).any (ln_hit 8 t) := by
  intro l t
  induction l with
  | nil => intro _; rfl
  | cons s l ih =>
    intro h
    have hs := h s List.mem_cons_self
    have ih' := ih (fun s' h' => h s' (List.mem_cons_of_mem _ h'))
    by_cases hk : s.1 = t.2.1 % 4
    · rw [List.filter_cons_of_pos (by simp [ln_pt, hk]), List.any_cons, List.any_cons, ih']
    · rw [List.filter_cons_of_neg (by simp [ln_pt, hk]), List.any_cons, ih']
      have : ln_hit 8 t s = false := by
        have : s.2.1 ≠ t.2.1 := fun e => hk (by rw [hs, e])
        simp [ln_hit, this]
      rw [this, Bool.false_or]
theorem ln_ff_part {k m : Nat} {oth : List ln_T → List ln_T} : ∀ (r l : List ln_T), (∀ s, s ∈ l → s.1 = s.2.1 % 4) → ∀ s, s ∈ ln_ff k m oth r l → s.1 = s.2.1 % 4 := by
  intro r
  induction r with
  | nil => intro l h; exact h
  | cons t r ih =>
    intro l hl
    rw [ln_ff]
    split
    · refine ih _ (fun s hs => ?_)
      rcases List.mem_append.mp hs with h | h
      · exact hl s h
      · have := List.mem_singleton.mp h
        subst this
        rfl
    · exact ih l hl
theorem ln_ls_part {a : Int32} {full : List ln_T} : ∀ (r : List ln_T) (i : Nat), ∀ s, s ∈ ln_ls a full r i → s.1 = 0 := by
  intro r
  induction r with
  | nil => intro i s hs; simp [ln_ls] at hs
  | cons t r ih =>
    intro i s hs
    rw [ln_ls] at hs
    rcases List.mem_append.mp hs with h | h
    · split at h
      · simp at h
      · have := List.mem_singleton.mp h
        subst this
        rfl
    · exact ih _ s h
theorem ln_st_part {k : Nat} {a b : Int32} : ∀ t s : ln_T, s ∈ ln_st k a b t → s.1 = t.1 := by
  intro t s hs
  unfold ln_st at hs
  split at hs
  · split at hs
    · simp at hs
    · have := List.mem_singleton.mp hs
      rw [this]
  · split at hs
    · have := List.mem_singleton.mp hs
      rw [this]
    · have := List.mem_singleton.mp hs
      rw [this]
theorem ln_rep_part {n : Nat} : ∀ t s : ln_T, s ∈ List.replicate n t → s.1 = t.1 := by
  intro t s hs
  rw [(List.mem_replicate.mp hs).2]
theorem ln_jn_part {r : List ln_T} : ∀ t s : ln_T, s ∈ ln_jn t r → s.1 = t.2.1 % 4 := by
  intro t s hs
  unfold ln_jn at hs
  obtain ⟨x, _, e⟩ := List.mem_map.mp hs
  rw [← e]
theorem ln_rep1 (l : List ln_T) : l.flatMap (List.replicate 1) = l := by
  induction l with
  | nil => rfl
  | cons t l ih => rw [List.flatMap_cons, ih]; rfl
theorem ln_len4 {l : List ln_T} (h : ∀ t, t ∈ l → t.1 < 4) : l.length = (l.filter (ln_pt 0)).length + (l.filter (ln_pt 1)).length + (l.filter (ln_pt 2)).length + (l.filter (ln_pt 3)).length := by
  induction l with
  | nil => rfl
  | cons t l ih =>
    have := ih (fun t' h' => h t' (List.mem_cons_of_mem _ h'))
    have ht := h t List.mem_cons_self
    have h4 : t.1 = 0 ∨ t.1 = 1 ∨ t.1 = 2 ∨ t.1 = 3 := by omega
    have key : ∀ q, ((t :: l).filter (ln_pt q)).length = (if t.1 = q then 1 else 0) + (l.filter (ln_pt q)).length := by
      intro q
      by_cases h : t.1 = q
      · rw [if_pos h, List.filter_cons_of_pos (by simp [ln_pt, h]), List.length_cons, Nat.add_comm]
      · rw [if_neg h, List.filter_cons_of_neg (by simp [ln_pt, h]), Nat.zero_add]
    rw [key, key, key, key, List.length_cons, this]
    rcases h4 with e | e | e | e <;> rw [e] <;> simp <;> omega
theorem ln_perm4 {l r : List ln_T} (h : ∀ q, q < 4 → l.filter (ln_pt q) = r.filter (ln_pt q)) (hl : ∀ t, t ∈ l → t.1 < 4) (hr : ∀ t, t ∈ r → t.1 < 4) : l.Perm r := by
  rw [List.perm_iff_count]
  intro t
  by_cases ht : t.1 < 4
  · rw [← List.count_filter (p := ln_pt t.1) (l := l) (by simp [ln_pt]), ← List.count_filter (p := ln_pt t.1) (l := r) (by simp [ln_pt]), h _ ht]
  · rw [List.count_eq_zero.mpr (fun hm => ht (hl t hm)), List.count_eq_zero.mpr (fun hm => ht (hr t hm))]
/-- set d holds just the parts of T d -/
def ln_snd (F L : Nat → List ln_T) (T : Nat → Nat) (d : Nat) : Prop := ∀ q, q < 4 → (L d).filter (ln_pt q) = if (T d).testBit q = true then (F d).filter (ln_pt q) else []
def ln_sem (R : List ln_T) (e : ln_PE) (F : Nat → List ln_T) : List ln_T :=
  if e.1 = 0 then R
  else if e.1 = 4 then (F e.2.1).flatMap (List.replicate e.2.2.1.toNatClampNeg)
  else if e.1 = 5 then F e.2.1 ++ F e.2.2.1.toNatClampNeg
  else if e.1 = 6 then ln_rd 15 (ln_hv e.2.2.1) (F e.2.1)
  else if e.1 = 7 then (F e.2.1).flatMap (fun t => ln_jn t (F e.2.2.1.toNatClampNeg))
  else if e.1 = 8 then ln_ff 8 15 (fun l => l) (F e.2.1) []
  else if e.1 = 9 then ln_ff 9 15 (fun _ => F e.2.2.1.toNatClampNeg) (F e.2.1) []
  else if e.1 = 10 then ln_ls e.2.2.1 (F e.2.1) (F e.2.1) 0
  else (F e.2.1).flatMap (ln_st e.1 e.2.2.1 e.2.2.2)
def ln_fam (R : List ln_T) (P : Nat → ln_PE) (F : Nat → List ln_T) (S : Nat) : Prop :=
  ∀ d, d < S → F d = ln_sem R (P d) F ∧ (∀ t, t ∈ F d → t.1 < 4 ∧ t.2.1 < 16) ∧
    ((P d).1 = 4 → ∃ tm, tm < 100 ∧ (P d).2.2.1 = nI tm) ∧ ((P d).1 = 6 → ¬ (P d).2.2.1 = 1 ∧ ¬ (P d).2.2.1 = 2) ∧
    ((P d).1 = 7 → (∀ t, t ∈ F (P d).2.1 → t.1 = t.2.1 % 4) ∧ (∀ t, t ∈ F (ln_ya P d) → t.1 = t.2.1 % 4)) ∧
    ((P d).1 = 8 ∨ (P d).1 = 9 ∨ (P d).1 = 10 → (P d).2.1 = 0)
theorem ln_snd_mem {F L : Nat → List ln_T} {T : Nat → Nat} {d : Nat} (h : ln_snd F L T d) {t : ln_T} (ht : t ∈ L d) (h4 : t.1 < 4) : t ∈ F d := by
  have h1 : t ∈ (L d).filter (ln_pt t.1) := List.mem_filter.mpr ⟨ht, by simp [ln_pt]⟩
  rw [h t.1 h4] at h1
  split at h1
  · exact (List.mem_filter.mp h1).1
  · simp at h1
theorem ln_snd_perm {F L : Nat → List ln_T} {T : Nat → Nat} {d : Nat} (h : ln_snd F L T d) (hT : ∀ q, q < 4 → (T d).testBit q = true) (hL : ∀ t, t ∈ L d → t.1 < 4) (hF : ∀ t, t ∈ F d → t.1 < 4) : (L d).Perm (F d) :=
  ln_perm4 (fun q hq => by rw [h q hq, if_pos (hT q hq)]) hL hF
/-- the next list of set id is right when its parts are -/
def ln_mk (F L : Nat → List ln_T) (m id : Nat) (l : List ln_T) : Prop := ∀ q, q < 4 → l.filter (ln_pt q) = if m.testBit q = true then (F id).filter (ln_pt q) else (L id).filter (ln_pt q)
theorem ln_mk_app {F L : Nat → List ln_T} {T : Nat → Nat} {m id : Nat} {l : List ln_T} (hs : ln_snd F L T id) (hd : ∀ q, q < 4 → m.testBit q = true → (T id).testBit q = false) (hn : ∀ q, q < 4 → l.filter (ln_pt q) = if m.testBit q = true then (F id).filter (ln_pt q) else []) : ln_mk F L m id (L id ++ l) := by
  intro q hq
  rw [List.filter_append, hn q hq]
  cases hm : m.testBit q with
  | true => rw [hs q hq, hd q hq hm]; simp
  | false => simp
theorem ln_mk_snd {F L : Nat → List ln_T} {T : Nat → Nat} {m id : Nat} {l : List ln_T} (hs : ln_snd F L T id) (h : ln_mk F L m id l) : ln_snd F (ln_up L id l) (ln_up T id (T id ||| m)) id := by
  intro q hq
  rw [ln_us, ln_us, h q hq, Nat.testBit_or]
  cases hm : m.testBit q with
  | true => simp
  | false => rw [Bool.or_false, hs q hq]; simp
theorem ln_mk_len {F L : Nat → List ln_T} {T : Nat → Nat} {m id : Nat} {l : List ln_T} (hs : ln_snd F L T id) (h : ln_mk F L m id l) (h4 : ∀ t, t ∈ l → t.1 < 4) (hF : ∀ t, t ∈ F id → t.1 < 4) : l.length ≤ (F id).length := by
  rw [ln_len4 h4, ln_len4 hF]
  have key : ∀ q, q < 4 → (l.filter (ln_pt q)).length ≤ ((F id).filter (ln_pt q)).length := by
    intro q hq
    rw [h q hq]
    split
    · exact Nat.le_refl _
    · rw [hs q hq]
      split
      · exact Nat.le_refl _
      · simp
  have := key 0 (by decide)
  have := key 1 (by decide)
  have := key 2 (by decide)
  have := key 3 (by decide)
  omega
theorem ln_mk_full {F L : Nat → List ln_T} {id : Nat} {l : List ln_T} (h : ln_mk F L 15 id l) (h4 : ∀ t, t ∈ l → t.1 < 4) (hF : ∀ t, t ∈ F id → t.1 < 4) : l.length = (F id).length :=
  (ln_perm4 (fun q hq => by rw [h q hq, if_pos (ln_b15 q hq)]) h4 hF).length_eq
end
section
/-! each kind's next list is right -/
theorem ln_mkNar {F L : Nat → List ln_T} {T : Nat → Nat} {m id x : Nat} {g : ln_T → List ln_T} (hg : ∀ t s, s ∈ g t → s.1 = t.1) (hs : ln_snd F L T id) (hx : ln_snd F L T x) (hd : ∀ q, q < 4 → m.testBit q = true → (T id).testBit q = false) (hsrc : ∀ q, q < 4 → m.testBit q = true → (T x).testBit q = true) (hF : F id = (F x).flatMap g) :
    ln_mk F L m id (L id ++ (L x).flatMap (ln_gat m g)) := by
  refine ln_mk_app hs hd (fun q hq => ?_)
  rw [ln_flt_gat hg, hF, ln_flt_nar (fun t _ s => hg t s)]
  cases hm : m.testBit q with
  | true => rw [hx q hq, hsrc q hq hm]; simp
  | false => simp
theorem ln_mkUni {F L : Nat → List ln_T} {T : Nat → Nat} {m id x y : Nat} (hs : ln_snd F L T id) (hx : ln_snd F L T x) (hy : ln_snd F L T y) (hd : ∀ q, q < 4 → m.testBit q = true → (T id).testBit q = false) (hsx : ∀ q, q < 4 → m.testBit q = true → (T x).testBit q = true) (hsy : ∀ q, q < 4 → m.testBit q = true → (T y).testBit q = true) (hF : F id = F x ++ F y) :
    ln_mk F L m id (L id ++ (L x).flatMap (ln_gat m (List.replicate 1)) ++ (L y).flatMap (ln_gat m (List.replicate 1))) := by
  rw [List.append_assoc]
  refine ln_mk_app hs hd (fun q hq => ?_)
  rw [List.filter_append, ln_flt_gat ln_rep_part, ln_flt_gat ln_rep_part, ln_rep1, ln_rep1, hF, List.filter_append]
  cases hm : m.testBit q with
  | true => rw [hx q hq, hy q hq, hsx q hq hm, hsy q hq hm]; simp
  | false => simp
theorem ln_mkRd {F L : Nat → List ln_T} {T : Nat → Nat} {m id x : Nat} {f : ln_T → Int32} (hs : ln_snd F L T id) (hd : ∀ q, q < 4 → m.testBit q = true → (T id).testBit q = false) (hp : (L x).Perm (F x)) (hF : F id = ln_rd 15 f (F x)) : ln_mk F L m id (L id ++ ln_rd m f (L x)) := by
  refine ln_mk_app hs hd (fun q hq => ?_)
  rw [ln_flt_rd hq, hF, ln_rd_perm hp]
theorem ln_flt_key {l : List ln_T} {k : Nat} (h : ∀ t, t ∈ l → t.1 = t.2.1 % 4) : l.filter (fun s => s.2.1 == k) = (l.filter (ln_pt (k % 4))).filter (fun s => s.2.1 == k) := by
  rw [List.filter_filter]
  apply List.filter_congr
  intro s hs
  by_cases hk : s.2.1 = k
  · simp [hk, ln_pt, h s hs]
  · simp [hk]
theorem ln_mkJn {F L : Nat → List ln_T} {T : Nat → Nat} {m id x y : Nat} (hs : ln_snd F L T id) (hx : ln_snd F L T x) (hy : ln_snd F L T y) (hd : ∀ q, q < 4 → m.testBit q = true → (T id).testBit q = false) (hsx : ∀ q, q < 4 → (T x).testBit q = true) (hsy : ∀ q, q < 4 → (T y).testBit q = true)
    (hLx : ∀ t, t ∈ L x → t.1 < 4) (hLy : ∀ t, t ∈ L y → t.1 < 4) (hFx : ∀ t, t ∈ F x → t.1 = t.2.1 % 4) (hFy : ∀ t, t ∈ F y → t.1 = t.2.1 % 4) (hF : F id = (F x).flatMap (fun t => ln_jn t (F y))) :
    ln_mk F L m id (L id ++ (L x).flatMap (ln_gk m (fun t => ln_jn t (L y)))) := by
  have hj : ∀ t, ln_jn t (L y) = ln_jn t (F y) := by
    intro t
    unfold ln_jn
    rw [ln_flt_key (l := L y) (fun s h => hFy s (ln_snd_mem hy h (hLy s h))), ln_flt_key (l := F y) hFy, hy _ (Nat.mod_lt _ (by decide)), if_pos (hsy _ (Nat.mod_lt _ (by decide)))]
  have hgL : ∀ t, t ∈ L x → ∀ s, s ∈ ln_jn t (F y) → s.1 = t.1 := fun t ht s h => by rw [ln_jn_part t s h, hFx t (ln_snd_mem hx ht (hLx t ht))]
  have hgF : ∀ t, t ∈ F x → ∀ s, s ∈ ln_jn t (F y) → s.1 = t.1 := fun t ht s h => by rw [ln_jn_part t s h, hFx t ht]
  have e : (fun t => ln_jn t (L y)) = (fun t => ln_jn t (F y)) := funext hj
  refine ln_mk_app hs hd (fun q hq => ?_)
  rw [ln_flt_gk (fun t s h => ln_jn_part t s h), e, hF, ln_flt_nar hgL, ln_flt_nar hgF, hx q hq, if_pos (hsx q hq)]
theorem ln_mkDist {F L : Nat → List ln_T} {T : Nat → Nat} {m id x : Nat} (hs : ln_snd F L T id) (hd : ∀ q, q < 4 → m.testBit q = true → (T id).testBit q = false) (hx : L x = F x) (hL : ∀ t, t ∈ L id → t.1 < 4) (hF : F id = ln_ff 8 15 (fun l => l) (F x) []) :
    ln_mk F L m id (ln_ff 8 m (fun l => l) (L x) (L id)) := by
  have hFp : ∀ s, s ∈ F id → s.1 = s.2.1 % 4 := by
    rw [hF]
    exact ln_ff_part _ _ (fun s h => by simp at h)
  intro q hq
  rw [ln_flt_ff hq ln_oth8 (L x) (L id) (fun s h => hFp s (ln_snd_mem hs h (hL s h)))]
  cases hm : m.testBit q with
  | true =>
    rw [hs q hq, hd q hq hm, hF, ln_flt_ff hq ln_oth8 (F x) [] (fun s h => by simp at h), ln_b15 q hq, hx]
    simp
  | false => simp
theorem ln_ff_oth9 {m : Nat} {A B : List ln_T} (h : A.Perm B) : ∀ r l : List ln_T, ln_ff 9 m (fun _ => A) r l = ln_ff 9 m (fun _ => B) r l := by
  intro r
  induction r with
  | nil => intro l; rfl
  | cons t r ih =>
    intro l
    have e : A.any (ln_hit 9 t) = B.any (ln_hit 9 t) := by
      rw [Bool.eq_iff_iff, List.any_eq_true, List.any_eq_true]
      constructor
      · rintro ⟨s, hs, h2⟩
        exact ⟨s, h.mem_iff.mp hs, h2⟩
      · rintro ⟨s, hs, h2⟩
        exact ⟨s, h.mem_iff.mpr hs, h2⟩
    rw [ln_ff, ln_ff, e, ih, ih]
theorem ln_mkWo {F L : Nat → List ln_T} {T : Nat → Nat} {m id x y : Nat} (hs : ln_snd F L T id) (hd : ∀ q, q < 4 → m.testBit q = true → (T id).testBit q = false) (hx : L x = F x) (hy : (L y).Perm (F y)) (hL : ∀ t, t ∈ L id → t.1 < 4) (hF : F id = ln_ff 9 15 (fun _ => F y) (F x) []) :
    ln_mk F L m id (ln_ff 9 m (fun _ => L y) (L x) (L id)) := by
  have hFp : ∀ s, s ∈ F id → s.1 = s.2.1 % 4 := by
    rw [hF]
    exact ln_ff_part _ _ (fun s h => by simp at h)
  intro q hq
  rw [ln_ff_oth9 hy, ln_flt_ff hq (fun _ _ _ => rfl) (L x) (L id) (fun s h => hFp s (ln_snd_mem hs h (hL s h)))]
  cases hm : m.testBit q with
  | true =>
    rw [hs q hq, hd q hq hm, hF, ln_flt_ff hq (fun _ _ _ => rfl) (F x) [] (fun s h => by simp at h), ln_b15 q hq, hx]
    simp
  | false => simp
theorem ln_mkLast {F L : Nat → List ln_T} {T : Nat → Nat} {m id x : Nat} {a : Int32} (hs : ln_snd F L T id) (hd : ∀ q, q < 4 → m.testBit q = true → (T id).testBit q = false) (hx : L x = F x) (hF : F id = ln_ls a (F x) (F x) 0) :
    (m.testBit 0 = true → ln_mk F L m id (L id ++ ln_ls a (L x) (L x) 0)) ∧ (m.testBit 0 = false → ln_mk F L m id (L id)) := by
  have e : ∀ q, q ≠ 0 → (F id).filter (ln_pt q) = [] := by
    intro q hq
    rw [hF]
    exact ln_fnil (fun s h => by simp [ln_pt, ln_ls_part _ _ s h]; omega)
  constructor
  · intro h0
    refine ln_mk_app hs hd (fun q hq => ?_)
    rw [hx, ← hF]
    by_cases hq0 : q = 0
    · subst hq0; rw [h0]; simp
    · rw [e q hq0]; simp
  · intro h0 q hq
    by_cases hq0 : q = 0
    · subst hq0; rw [h0]; simp
    · cases hm : m.testBit q with
      | true => rw [hs q hq, hd q hq hm, e q hq0]; simp
      | false => simp
theorem ln_mkRows {F L : Nat → List ln_T} {m : Nat} (hL : L 0 = []) : ln_mk F L m 0 ((F 0).filter (fun t => m.testBit t.1)) := by
  intro q hq
  rw [List.filter_filter, hL]
  cases hm : m.testBit q with
  | true =>
    rw [if_pos rfl]
    apply List.filter_congr
    intro t _
    by_cases h : t.1 = q
    · simp [ln_pt, h, hm]
    · simp [ln_pt, h]
  | false =>
    rw [if_neg (by decide), List.filter_nil]
    refine ln_fnil (fun t _ => ?_)
    by_cases h : t.1 = q
    · simp [ln_pt, h, hm]
    · simp [ln_pt, h]
theorem ln_rd_len (m : Nat) (f : ln_T → Int32) (M : List ln_T) : (ln_rd m f M).length ≤ 16 := by
  have key : ∀ ks : List Nat, (ks.flatMap (ln_rk m f M)).length ≤ ks.length := by
    intro ks
    induction ks with
    | nil => exact Nat.le_refl _
    | cons k ks ih =>
      rw [List.flatMap_cons, List.length_append, List.length_cons]
      have : (ln_rk m f M k).length ≤ 1 := by
        unfold ln_rk
        split
        · simp
        · split
          · simp
          · simp
      omega
  exact key _
theorem ln_ls_len {a : Int32} {full : List ln_T} : ∀ (r : List ln_T) (i : Nat), (ln_ls a full r i).length ≤ r.length := by
  intro r
  induction r with
  | nil => intro i; exact Nat.le_refl _
  | cons t r ih =>
    intro i
    have := ih (i + 1)
    rw [ln_ls, List.length_append, List.length_cons]
    split
    · simp; omega
    · simp; omega
theorem ln_sem0 {R : List ln_T} {e : ln_PE} {F : Nat → List ln_T} (h : e.1 = 0) : ln_sem R e F = R := by
  unfold ln_sem; rw [if_pos h]
theorem ln_sem4 {R : List ln_T} {e : ln_PE} {F : Nat → List ln_T} (h : e.1 = 4) : ln_sem R e F = (F e.2.1).flatMap (List.replicate e.2.2.1.toNatClampNeg) := by
  unfold ln_sem; rw [if_neg (by omega), if_pos h]
theorem ln_sem5 {R : List ln_T} {e : ln_PE} {F : Nat → List ln_T} (h : e.1 = 5) : ln_sem R e F = F e.2.1 ++ F e.2.2.1.toNatClampNeg := by
  unfold ln_sem; rw [if_neg (by omega), if_neg (by omega), if_pos h]
theorem ln_sem6 {R : List ln_T} {e : ln_PE} {F : Nat → List ln_T} (h : e.1 = 6) : ln_sem R e F = ln_rd 15 (ln_hv e.2.2.1) (F e.2.1) := by
  unfold ln_sem; rw [if_neg (by omega), if_neg (by omega), if_neg (by omega), if_pos h]
theorem ln_sem7 {R : List ln_T} {e : ln_PE} {F : Nat → List ln_T} (h : e.1 = 7) : ln_sem R e F = (F e.2.1).flatMap (fun t => ln_jn t (F e.2.2.1.toNatClampNeg)) := by
  unfold ln_sem; rw [if_neg (by omega), if_neg (by omega), if_neg (by omega), if_neg (by omega), if_pos h]
theorem ln_sem8 {R : List ln_T} {e : ln_PE} {F : Nat → List ln_T} (h : e.1 = 8) : ln_sem R e F = ln_ff 8 15 (fun l => l) (F e.2.1) [] := by
  unfold ln_sem; rw [if_neg (by omega), if_neg (by omega), if_neg (by omega), if_neg (by omega), if_neg (by omega), if_pos h]
theorem ln_sem9 {R : List ln_T} {e : ln_PE} {F : Nat → List ln_T} (h : e.1 = 9) : ln_sem R e F = ln_ff 9 15 (fun _ => F e.2.2.1.toNatClampNeg) (F e.2.1) [] := by
  unfold ln_sem; rw [if_neg (by omega), if_neg (by omega), if_neg (by omega), if_neg (by omega), if_neg (by omega), if_neg (by omega), if_pos h]
theorem ln_sem10 {R : List ln_T} {e : ln_PE} {F : Nat → List ln_T} (h : e.1 = 10) : ln_sem R e F = ln_ls e.2.2.1 (F e.2.1) (F e.2.1) 0 := by
  unfold ln_sem; rw [if_neg (by omega), if_neg (by omega), if_neg (by omega), if_neg (by omega), if_neg (by omega), if_neg (by omega), if_neg (by omega), if_pos h]
theorem ln_semS {R : List ln_T} {e : ln_PE} {F : Nat → List ln_T} (h : e.1 = 1 ∨ e.1 = 2 ∨ e.1 = 11) : ln_sem R e F = (F e.2.1).flatMap (ln_st e.1 e.2.2.1 e.2.2.2) := by
  unfold ln_sem; rw [if_neg (by omega), if_neg (by omega), if_neg (by omega), if_neg (by omega), if_neg (by omega), if_neg (by omega), if_neg (by omega), if_neg (by omega)]
end
section
/-! makeParts -/
theorem ln_kst {k : Nat} (h3 : k ≠ 3) (w : ln_stp k = true) : k = 1 ∨ k = 2 ∨ k = 11 := by
  simp [ln_stp] at w
  omega
theorem ln_knst {k : Nat} (w : ln_stp k = false) : k ≠ 1 ∧ k ≠ 2 ∧ k ≠ 11 := by
  refine ⟨fun h => ?_, fun h => ?_, fun h => ?_⟩ <;> subst h <;> exact absurd w (by decide)
theorem ln_k89 {k : Nat} (h : k ≤ 11) (h0 : k ≠ 0) (h3 : k ≠ 3) (hs : k ≠ 1 ∧ k ≠ 2 ∧ k ≠ 11) (h4 : k ≠ 4) (h5 : k ≠ 5) (h6 : k ≠ 6) (h7 : k ≠ 7) (h10 : k ≠ 10) : k = 8 ∨ k = 9 := by omega
theorem ln_app4 {A B : List ln_T} (hA : ∀ t, t ∈ A → t.1 < 4) (hB : ∀ t, t ∈ B → t.1 < 4) : ∀ t, t ∈ A ++ B → t.1 < 4 := by
  intro t ht
  rcases List.mem_append.mp ht with h | h
  · exact hA t h
  · exact hB t h
theorem ln_gat4 {m : Nat} {g : ln_T → List ln_T} {l : List ln_T} (hg : ∀ t s, s ∈ g t → s.1 = t.1) (hl : ∀ t, t ∈ l → t.1 < 4) : ∀ t, t ∈ l.flatMap (ln_gat m g) → t.1 < 4 := by
  intro s hs
  obtain ⟨t, ht, h⟩ := List.mem_flatMap.mp hs
  unfold ln_gat at h
  split at h
  · rw [hg t s h]; exact hl t ht
  · simp at h
theorem ln_gk4 {m : Nat} {g : ln_T → List ln_T} {l : List ln_T} (hg : ∀ t s, s ∈ g t → s.1 = t.2.1 % 4) : ∀ t, t ∈ l.flatMap (ln_gk m g) → t.1 < 4 := by
  intro s hs
  obtain ⟨t, ht, h⟩ := List.mem_flatMap.mp hs
  unfold ln_gk at h
  split at h
  · rw [hg t s h]; exact Nat.mod_lt _ (by decide)
  · simp at h
theorem ln_rd4 {m : Nat} {f : ln_T → Int32} {M : List ln_T} : ∀ t, t ∈ ln_rd m f M → t.1 = t.2.1 % 4 := by
  intro s hs
  obtain ⟨k, hk, h⟩ := List.mem_flatMap.mp hs
  unfold ln_rk at h
  split at h
  · simp at h
  · split at h
    · have := List.mem_singleton.mp h
      subst this
      rfl
    · simp at h
theorem ln_pic4 {a10 a11 a12 a13 : Nat → Int32} {L : Nat → List ln_T} (hp : ln_pic a10 a11 a12 a13 L) {x : Nat} (hx : x < 16) : ∀ t, t ∈ L x → t.1 < 4 := by
  intro t ht
  obtain ⟨i, hi⟩ := List.mem_iff_getElem?.mp ht
  exact ((hp x hx).2.2 i t hi).2.2.2.1
section
variable (hc sc lv cl pk pv oc : Int32) (a1 a2 a3 a4 a5 a6 a7 a8 a9 a10 a11 a12 a13 a14 a15 a16 a17 a18 a19 a20 a21 a22 a23 a24 a25 : Nat → Int32)
theorem ln_parts127g {post : Int32 → St2 → Prop} {T : Nat → Nat} {id m : Nat} (hid : id < 16) (hm : m < 16) (hT : ln_msk a14 T) (H : ∀ a14 : Nat → Int32, ln_msk a14 (ln_up T id (T id ||| m)) → post 1 (hc, sc, lv, cl, pk, pv, oc, a1, a2, a3, a4, a5, a6, a7, a8, a9, a10, a11, a12, a13, a14, a15, upd a16 id 1, a17, a18, a19, a20, a21, a22, a23, a24, a25)) : wX_makeParts_127 post (nI id) (nI m) 1 hc sc lv cl pk pv oc a1 a2 a3 a4 a5 a6 a7 a8 a9 a10 a11 a12 a13 a14 a15 a16 a17 a18 a19 a20 a21 a22 a23 a24 a25 := by
  have e : (nI id).toNatClampNeg = id := nI_clamp (by omega)
  have hi : vp_in (nI id) 16 := pk_in id 16 hid
  obtain ⟨t1, t2⟩ := hT id hid
  unfold wX_makeParts_127
  refine ⟨hi, hi, nm_r (e' := upd a14 id (nI (T id ||| m))) (by rw [e, t1, ln_orN _ t2 _ hm]) (br_f (by decide) ⟨hi, nm_r (e' := upd a16 id 1) (by rw [e]) ?_⟩)⟩
  unfold wX_makeParts_150
  exact br_f (by decide) ⟨hi, br_t (by rw [e, pk_us]) (H _ (ln_mskU hT (ln_or16 _ t2 _ hm)))⟩
theorem ln_parts127b {post : Int32 → St2 → Prop} {T : Nat → Nat} {id m : Nat} (hid : id < 16) (hm : m < 16) (hT : ln_msk a14 T) (H : ∀ a14 : Nat → Int32, ln_msk a14 (ln_up T id (T id ||| m)) → post 0 (hc, sc, lv, cl, pk, pv, oc, a1, a2, a3, a4, a5, a6, a7, a8, a9, a10, a11, a12, a13, a14, a15, a16, a17, a18, a19, a20, a21, a22, a23, a24, a25)) : wX_makeParts_127 post (nI id) (nI m) 0 hc sc lv cl pk pv oc a1 a2 a3 a4 a5 a6 a7 a8 a9 a10 a11 a12 a13 a14 a15 a16 a17 a18 a19 a20 a21 a22 a23 a24 a25 := by
  have e : (nI id).toNatClampNeg = id := nI_clamp (by omega)
  have hi : vp_in (nI id) 16 := pk_in id 16 hid
  obtain ⟨t1, t2⟩ := hT id hid
  unfold wX_makeParts_127
  refine ⟨hi, hi, nm_r (e' := upd a14 id (nI (T id ||| m))) (by rw [e, t1, ln_orN _ t2 _ hm]) (br_t rfl ?_)⟩
  unfold wX_makeParts_150
  exact br_t rfl (H _ (ln_mskU hT (ln_or16 _ t2 _ hm)))
theorem ln_makeParts {post : Int32 → St2 → Prop} {R : List ln_T} {P : Nat → ln_PE} {F L : Nat → List ln_T} {T N : Nat → Nat} {S id : Nat}
    (hpl : ln_pl a3 a4 a5 a6 P S) (hwf : ln_wf P S) (hfam : ln_fam R P F S) (hR : ln_rws a7 a8 a9 R) (hp : ln_pic a10 a11 a12 a13 L) (hT : ln_msk a14 T) (hN : ln_msk a17 N) (hid : id < S)
    (hsnd : ∀ d, d < S → ln_snd F L T d) (h0 : L 0 = (F 0).filter (fun t => (T 0).testBit t.1))
    (hsrc : (P id).1 ≠ 0 → ∀ x, ln_src P id x → ∀ q, q < 4 → (ln_wide (P id).1 = true ∨ (N id).testBit q = true) → (T x).testBit q = true)
    (hdis : ∀ q, q < 4 → (N id).testBit q = true → (T id).testBit q = false) (h00 : id = 0 → T 0 = 0)
    (hbig : 48 < (F id).length → T id = 0 ∧ N id = 15)
    (H1 : (F id).length ≤ 48 → ∀ (l : List ln_T) (cl pk pv : Int32) (a10 a11 a12 a13 a14 a19 a20 a21 a22 a23 : Nat → Int32), ln_pic a10 a11 a12 a13 (ln_up L id l) → ln_msk a14 (ln_up T id (T id ||| N id)) → ln_mk F L (N id) id l → (id = 0 → l = (F 0).filter (fun t => (N 0).testBit t.1)) → post 1 (hc, sc, lv, cl, pk, pv, oc, a1, a2, a3, a4, a5, a6, a7, a8, a9, a10, a11, a12, a13, a14, a15, upd a16 id 1, a17, a18, a19, a20, a21, a22, a23, a24, a25))
    (H0 : 48 < (F id).length → ∀ (l : List ln_T) (cl pk pv : Int32) (a10 a11 a12 a13 a14 a19 a20 a21 a22 a23 : Nat → Int32), ln_pic a10 a11 a12 a13 (ln_up L id l) → ln_msk a14 (ln_up T id (T id ||| N id)) → post 0 (hc, sc, lv, cl, pk, pv, oc, a1, a2, a3, a4, a5, a6, a7, a8, a9, a10, a11, a12, a13, a14, a15, a16, a17, a18, a19, a20, a21, a22, a23, a24, a25)) :
    wpX_makeParts post (hc, sc, lv, cl, pk, pv, oc, a1, a2, a3, a4, a5, a6, a7, a8, a9, a10, a11, a12, a13, a14, a15, a16, a17, a18, a19, a20, a21, a22, a23, a24, a25) (nI id) := by
  have hwf' := hwf
  obtain ⟨w1, w2, w3, w4⟩ := hwf
  obtain ⟨k1, k2, k3, k4, k5⟩ := w4 id hid
  obtain ⟨p1, p2, p3, p4⟩ := hpl id hid
  obtain ⟨f1, f2, f3, f4, f5, f6⟩ := hfam id hid
  have hid16 : id < 16 := by omega
  obtain ⟨n1, n2⟩ := hN id hid16
  have e : (nI id).toNatClampNeg = id := nI_clamp (by omega)
  have hi : vp_in (nI id) 16 := pk_in id 16 hid16
  have hpid : ln_pic a10 a11 a12 a13 (ln_up L id (L id)) := by rw [ln_ui]; exact hp
  have hs := hsnd id hid
  have hF4 : ∀ t, t ∈ F id → t.1 < 4 := fun t ht => (f2 t ht).1
  have hL4 : ∀ t, t ∈ L id → t.1 < 4 := ln_pic4 hp hid16
  have fit : ∀ l, ln_mk F L (N id) id l → (∀ t, t ∈ l → t.1 < 4) → l.length ≤ 48 → (F id).length ≤ 48 := by
    intro l hl h4 hle
    rcases Nat.lt_or_ge 48 (F id).length with h | h
    · have h15 := (hbig h).2
      rw [h15] at hl
      have := ln_mk_full hl h4 hF4
      omega
    · exact h
  have big : ∀ l, ln_mk F L (N id) id l → (∀ t, t ∈ l → t.1 < 4) → 48 < l.length → 48 < (F id).length := by
    intro l hl h4 hlt
    exact Nat.lt_of_lt_of_le hlt (ln_mk_len hs hl h4 hF4)
  unfold wpX_makeParts
  refine ⟨hi, nm_r (e' := nI (P id).1) (by rw [e]; exact p1) ⟨hi, nm_r (e' := nI (N id)) (by rw [e]; exact n1) ?_⟩⟩
  refine pk_eq (P id).1 0 (fun z => ?_) (fun z => ?_)
  · have hid0 : id = 0 := by
      rcases Nat.eq_zero_or_pos id with h | h
      · exact h
      · exact absurd z (k3 (by omega)).1
    subst hid0
    have hL0 : L 0 = [] := by
      rw [h0, h00 rfl]
      exact ln_fnil (fun t _ => Nat.zero_testBit _)
    have hFR : F 0 = R := by rw [f1, ln_sem0 z]
    refine ln_makeRows hc sc lv cl pk pv oc a1 a2 a3 a4 a5 a6 a7 a8 a9 a10 a11 a12 a13 a14 a15 a16 a17 a18 a19 a20 a21 a22 a23 a24 a25 hR n2 hp hL0 (fun a10 a11 a12 a13 hp => ?_)
    rw [← hFR] at hp
    exact ln_parts127g hc sc lv cl pk pv oc a1 a2 a3 a4 a5 a6 a7 a8 a9 a10 a11 a12 a13 a14 a15 a16 a17 a18 a19 a20 a21 a22 a23 a24 a25 (by decide) n2 hT (fun a14 hT => H1 (by rw [hFR]; have := hR.1; omega) _ cl pk pv a10 a11 a12 a13 a14 a19 a20 a21 a22 a23 hp hT (ln_mkRows hL0) (fun _ => rfl))
  · have hid0 : id ≠ 0 := fun h => z (by rw [h]; exact w3)
    have hxlt := (k3 hid0).2
    have hx16 : (P id).2.1 < 16 := by omega
    have hne : (P id).2.1 ≠ id := by omega
    have hxS : (P id).2.1 < S := by omega
    have hsx := hsnd _ hxS
    have hLx4 : ∀ t, t ∈ L (P id).2.1 → t.1 < 4 := ln_pic4 hp hx16
    have hFx4 : ∀ t, t ∈ F (P id).2.1 → t.1 < 4 := fun t ht => ((hfam _ hxS).2.1 t ht).1
    have hl48 : (L id).length ≤ 48 := (hp id hid16).2.1
    have G1 : ∀ (l : List ln_T) (cl pk pv : Int32) (a10 a11 a12 a13 a19 a20 a21 a22 a23 : Nat → Int32), ln_mk F L (N id) id l → (F id).length ≤ 48 → ln_pic a10 a11 a12 a13 (ln_up L id l) → wX_makeParts_127 post (nI id) (nI (N id)) 1 hc sc lv cl pk pv oc a1 a2 a3 a4 a5 a6 a7 a8 a9 a10 a11 a12 a13 a14 a15 a16 a17 a18 a19 a20 a21 a22 a23 a24 a25 :=
      fun l cl pk pv a10 a11 a12 a13 a19 a20 a21 a22 a23 hm hf hp => ln_parts127g hc sc lv cl pk pv oc a1 a2 a3 a4 a5 a6 a7 a8 a9 a10 a11 a12 a13 a14 a15 a16 a17 a18 a19 a20 a21 a22 a23 a24 a25 hid16 n2 hT (fun a14 hT => H1 hf l cl pk pv a10 a11 a12 a13 a14 a19 a20 a21 a22 a23 hp hT hm (fun h => absurd h hid0))
    have G0 : ∀ (l : List ln_T) (cl pk pv : Int32) (a10 a11 a12 a13 a19 a20 a21 a22 a23 : Nat → Int32), 48 < (F id).length → ln_pic a10 a11 a12 a13 (ln_up L id l) → wX_makeParts_127 post (nI id) (nI (N id)) 0 hc sc lv cl pk pv oc a1 a2 a3 a4 a5 a6 a7 a8 a9 a10 a11 a12 a13 a14 a15 a16 a17 a18 a19 a20 a21 a22 a23 a24 a25 :=
      fun l cl pk pv a10 a11 a12 a13 a19 a20 a21 a22 a23 hf hp => ln_parts127b hc sc lv cl pk pv oc a1 a2 a3 a4 a5 a6 a7 a8 a9 a10 a11 a12 a13 a14 a15 a16 a17 a18 a19 a20 a21 a22 a23 a24 a25 hid16 n2 hT (fun a14 hT => H0 hf l cl pk pv a10 a11 a12 a13 a14 a19 a20 a21 a22 a23 hp hT)
    have src : ∀ q, q < 4 → (N id).testBit q = true → (T (P id).2.1).testBit q = true := fun q hq hb => hsrc z _ (Or.inl rfl) q hq (Or.inr hb)
    have srcw : ln_wide (P id).1 = true → ∀ q, q < 4 → (T (P id).2.1).testBit q = true := fun hw q hq => hsrc z _ (Or.inl rfl) q hq (Or.inl hw)
    have full0 : ln_wide (P id).1 = true → (P id).2.1 = 0 → L (P id).2.1 = F (P id).2.1 := by
      intro hw hx0
      have hh := srcw hw
      rw [hx0] at hh hFx4
      rw [hx0, h0]
      exact ln_fself (fun t ht => hh _ (hFx4 t ht))
    refine ln_isStep hc sc lv cl pk pv oc a1 a2 a3 a4 a5 a6 a7 a8 a9 a10 a11 a12 a13 a14 a15 a16 a17 a18 a19 a20 a21 a22 a23 a24 a25 rfl (by omega) (fun w => br_f (by decide) ?_) (fun w => br_t rfl ?_)
    · have hx0 := k5 w
      have hk : (P id).1 = 1 ∨ (P id).1 = 2 ∨ (P id).1 = 11 := ln_kst k2 w
      have hmk := ln_mkNar (g := ln_st (P id).1 (P id).2.2.1 (P id).2.2.2) ln_st_part hs hsx hdis src (by rw [f1, ln_semS hk])
      have h4 := ln_app4 hL4 (ln_gat4 (m := N id) (g := ln_st (P id).1 (P id).2.2.1 (P id).2.2.2) ln_st_part hLx4)
      have h3x : a3 (P id).2.1 = nI 0 := by rw [hx0, (hpl 0 w2).1, w3]
      refine ln_makeSteps hc sc lv cl pk pv oc a1 a2 a3 a4 a5 a6 a7 a8 a9 a10 a11 a12 a13 a14 a15 a16 a17 a18 a19 a20 a21 a22 a23 a24 a25 (l := L id) hid16 hx16 hne n2 p1 p2 p3 p4 hk h3x (by decide) rfl hpid (fun hl cl pk pv a10 a11 a12 a13 a19 hp => ?_) (fun hl l cl pk pv a10 a11 a12 a13 a19 hp => ?_)
      · exact G1 _ cl pk pv a10 a11 a12 a13 a19 a20 a21 a22 a23 hmk (fit _ hmk h4 (by rw [List.length_append]; exact hl)) hp
      · exact G0 l cl pk pv a10 a11 a12 a13 a19 a20 a21 a22 a23 (big _ hmk h4 (by rw [List.length_append]; exact hl)) hp
    · have nst := ln_knst w
      refine pk_eq (P id).1 4 (fun h4k => ?_) (fun n4 => pk_eq (P id).1 5 (fun h5k => ?_) (fun n5 => pk_eq (P id).1 6 (fun h6k => ?_) (fun n6 => pk_eq (P id).1 7 (fun h7k => ?_) (fun n7 => pk_eq (P id).1 10 (fun h10k => ?_) (fun n10 => ?_)))))
      · obtain ⟨tm, htm, ea⟩ := f3 h4k
        have ec : (P id).2.2.1.toNatClampNeg = tm := by rw [ea]; exact nI_clamp (by omega)
        have hmk := ln_mkNar (g := List.replicate tm) ln_rep_part hs hsx hdis src (by rw [f1, ln_sem4 h4k, ec])
        have h4 := ln_app4 hL4 (ln_gat4 (m := N id) (g := List.replicate tm) ln_rep_part hLx4)
        unfold wX_makeParts_59
        rw [h4k]
        refine ln_makeRep hc sc lv cl pk pv oc a1 a2 a3 a4 a5 a6 a7 a8 a9 a10 a11 a12 a13 a14 a15 a16 a17 a18 a19 a20 a21 a22 a23 a24 a25 (l := L id) p2 (by rw [p3]; exact ea) hid16 hx16 hne n2 htm hpid (fun hl a10 a11 a12 a13 hp => ?_) (fun hl l a10 a11 a12 a13 hp => ?_)
        · exact G1 _ cl pk pv a10 a11 a12 a13 a19 a20 a21 a22 a23 hmk (fit _ hmk h4 (by rw [List.length_append]; exact hl)) hp
        · exact G0 l cl pk pv a10 a11 a12 a13 a19 a20 a21 a22 a23 (big _ hmk h4 (by rw [List.length_append]; exact hl)) hp
      · have h2 : ln_two (P id).1 = true := by rw [h5k]; rfl
        obtain ⟨y1, y2⟩ := k4 h2
        have hyS : ln_ya P id < S := by omega
        have srcy : ∀ q, q < 4 → (N id).testBit q = true → (T (ln_ya P id)).testBit q = true := fun q hq hb => hsrc z _ (Or.inr ⟨h2, rfl⟩) q hq (Or.inr hb)
        have hmk := ln_mkUni hs hsx (hsnd _ hyS) hdis src srcy (by rw [f1, ln_sem5 h5k]; rfl)
        have h4 := ln_app4 (ln_app4 hL4 (ln_gat4 (m := N id) (g := List.replicate 1) ln_rep_part hLx4)) (ln_gat4 (m := N id) (g := List.replicate 1) ln_rep_part (ln_pic4 hp (show ln_ya P id < 16 by omega)))
        unfold wX_makeParts_59
        rw [h5k]
        refine ln_makeUni hc sc lv cl pk pv oc a1 a2 a3 a4 a5 a6 a7 a8 a9 a10 a11 a12 a13 a14 a15 a16 a17 a18 a19 a20 a21 a22 a23 a24 a25 (l := L id) p2 (by rw [p3]; exact y2) hid16 hx16 hne (by omega) (by omega) n2 hpid (fun hl a10 a11 a12 a13 hp => ?_) (fun hl l a10 a11 a12 a13 hp => ?_)
        · exact G1 _ cl pk pv a10 a11 a12 a13 a19 a20 a21 a22 a23 hmk (fit _ hmk h4 (by rw [List.length_append, List.length_append]; exact hl)) hp
        · exact G0 l cl pk pv a10 a11 a12 a13 a19 a20 a21 a22 a23 (big _ hmk h4 (by rw [List.length_append, List.length_append]; exact hl)) hp
      · have hw : ln_wide (P id).1 = true := by rw [h6k]; rfl
        have hmk := ln_mkRd (m := N id) (f := ln_hv (P id).2.2.1) hs hdis (ln_snd_perm hsx (srcw hw) hLx4 hFx4) (by rw [f1, ln_sem6 h6k])
        have h4 := ln_app4 hL4 (fun t (ht : t ∈ ln_rd (N id) (ln_hv (P id).2.2.1) (L (P id).2.1)) => by rw [ln_rd4 t ht]; exact Nat.mod_lt _ (by decide))
        have hF16 : (F id).length ≤ 16 := by rw [f1, ln_sem6 h6k]; exact ln_rd_len _ _ _
        have hfit := ln_mk_len hs hmk h4 hF4
        rw [List.length_append] at hfit
        exact ln_makeSums hc sc lv cl pk pv oc a1 a2 a3 a4 a5 a6 a7 a8 a9 a10 a11 a12 a13 a14 a15 a16 a17 a18 a19 a20 a21 a22 a23 a24 a25 (l := L id) p2 p3 (f4 h6k).1 (f4 h6k).2 hid16 hx16 hne n2 hpid (by omega) (fun a10 a11 a12 a13 a20 a21 a22 a23 hp => G1 _ cl pk pv a10 a11 a12 a13 a19 a20 a21 a22 a23 hmk (by omega) hp)
      · have h2 : ln_two (P id).1 = true := by rw [h7k]; rfl
        have hw : ln_wide (P id).1 = true := by rw [h7k]; rfl
        obtain ⟨y1, y2⟩ := k4 h2
        have hyS : ln_ya P id < S := by omega
        have srcy : ∀ q, q < 4 → (T (ln_ya P id)).testBit q = true := fun q hq => hsrc z _ (Or.inr ⟨h2, rfl⟩) q hq (Or.inl hw)
        have hmk := ln_mkJn (m := N id) hs hsx (hsnd _ hyS) hdis (srcw hw) srcy hLx4 (ln_pic4 hp (show ln_ya P id < 16 by omega)) (f5 h7k).1 (f5 h7k).2 (by rw [f1, ln_sem7 h7k]; rfl)
        have h4 := ln_app4 hL4 (ln_gk4 (m := N id) (l := L (P id).2.1) (g := fun t => ln_jn t (L (ln_ya P id))) (fun t s h => ln_jn_part t s h))
        refine ln_makeJoin hc sc lv cl pk pv oc a1 a2 a3 a4 a5 a6 a7 a8 a9 a10 a11 a12 a13 a14 a15 a16 a17 a18 a19 a20 a21 a22 a23 a24 a25 (l := L id) p2 (by rw [p3]; exact y2) hid16 hx16 hne (by omega) (by omega) n2 hpid (fun hl a10 a11 a12 a13 hp => ?_) (fun hl l a10 a11 a12 a13 hp => ?_)
        · exact G1 _ cl pk pv a10 a11 a12 a13 a19 a20 a21 a22 a23 hmk (fit _ hmk h4 (by rw [List.length_append]; exact hl)) hp
        · exact G0 l cl pk pv a10 a11 a12 a13 a19 a20 a21 a22 a23 (big _ hmk h4 (by rw [List.length_append]; exact hl)) hp
      · have hw : ln_wide (P id).1 = true := by rw [h10k]; rfl
        have hx0 := f6 (Or.inr (Or.inr h10k))
        have hfl := full0 hw hx0
        have hFR : F (P id).2.1 = R := by rw [hx0, (hfam 0 w2).1, ln_sem0 w3]
        have h24 := hR.1
        have hmk := ln_mkLast (m := N id) (a := (P id).2.2.1) hs hdis hfl (by rw [f1, ln_sem10 h10k])
        have hFl : (F id).length ≤ 24 := by
          rw [f1, ln_sem10 h10k, hFR]
          exact Nat.le_trans (ln_ls_len _ _) h24
        have hLl : (L id).length ≤ 24 := by
          refine Nat.le_trans (ln_mk_len (m := 0) hs (fun q hq => ?_) hL4 hF4) hFl
          rw [Nat.zero_testBit]
          simp
        refine ln_makeLast hc sc lv cl pk pv oc a1 a2 a3 a4 a5 a6 a7 a8 a9 a10 a11 a12 a13 a14 a15 a16 a17 a18 a19 a20 a21 a22 a23 a24 a25 (l := L id) p2 hid16 hx16 hne n2 p3 (by rw [hfl, hFR]; exact h24) hLl hpid (fun hb a10 a11 a12 a13 hp => ?_) (fun hb => ?_)
        · exact G1 _ cl pk pv a10 a11 a12 a13 a19 a20 a21 a22 a23 (hmk.1 hb) (by omega) hp
        · exact G1 _ cl pk pv a10 a11 a12 a13 a19 a20 a21 a22 a23 (hmk.2 hb) (by omega) hpid
      · have h89 : (P id).1 = 8 ∨ (P id).1 = 9 := ln_k89 k1 z k2 nst n4 n5 n6 n7 n10
        have hw : ln_wide (P id).1 = true := by rcases h89 with h | h <;> rw [h] <;> rfl
        have hx0 := f6 (h89.elim Or.inl (fun h => Or.inr (Or.inl h)))
        have hfl := full0 hw hx0
        rcases h89 with h8k | h9k
        · have hmk := ln_mkDist (m := N id) hs hdis hfl hL4 (by rw [f1, ln_sem8 h8k])
          have hFp : ∀ s, s ∈ F id → s.1 = s.2.1 % 4 := by
            rw [f1, ln_sem8 h8k]
            exact ln_ff_part _ _ (fun s h => by simp at h)
          have h4 : ∀ t, t ∈ ln_ff 8 (N id) (fun l => l) (L (P id).2.1) (L id) → t.1 < 4 := fun t ht => by
            rw [ln_ff_part _ _ (fun s h => hFp s (ln_snd_mem hs h (hL4 s h))) t ht]
            exact Nat.mod_lt _ (by decide)
          rw [h8k]
          refine ln_makeDist hc sc lv cl pk pv oc a1 a2 a3 a4 a5 a6 a7 a8 a9 a10 a11 a12 a13 a14 a15 a16 a17 a18 a19 a20 a21 a22 a23 a24 a25 (l := L id) p2 hid16 hx16 hne n2 hpid (fun hl a10 a11 a12 a13 hp => ?_) (fun hl l a10 a11 a12 a13 hp => ?_)
          · exact G1 _ cl pk pv a10 a11 a12 a13 a19 a20 a21 a22 a23 hmk (fit _ hmk h4 hl) hp
          · exact G0 l cl pk pv a10 a11 a12 a13 a19 a20 a21 a22 a23 (big _ hmk h4 hl) hp
        · have h2 : ln_two (P id).1 = true := by rw [h9k]; rfl
          obtain ⟨y1, y2⟩ := k4 h2
          have hyS : ln_ya P id < S := by omega
          have srcy : ∀ q, q < 4 → (T (ln_ya P id)).testBit q = true := fun q hq => hsrc z _ (Or.inr ⟨h2, rfl⟩) q hq (Or.inl hw)
          have hpy := ln_snd_perm (hsnd _ hyS) srcy (ln_pic4 hp (show ln_ya P id < 16 by omega)) (fun t ht => ((hfam _ hyS).2.1 t ht).1)
          have hmk := ln_mkWo (m := N id) hs hdis hfl hpy hL4 (by rw [f1, ln_sem9 h9k]; rfl)
          have hFp : ∀ s, s ∈ F id → s.1 = s.2.1 % 4 := by
            rw [f1, ln_sem9 h9k]
            exact ln_ff_part _ _ (fun s h => by simp at h)
          have h4 : ∀ t, t ∈ ln_ff 9 (N id) (fun _ => L (ln_ya P id)) (L (P id).2.1) (L id) → t.1 < 4 := fun t ht => by
            rw [ln_ff_part _ _ (fun s h => hFp s (ln_snd_mem hs h (hL4 s h))) t ht]
            exact Nat.mod_lt _ (by decide)
          rw [h9k]
          refine ln_makeWo hc sc lv cl pk pv oc a1 a2 a3 a4 a5 a6 a7 a8 a9 a10 a11 a12 a13 a14 a15 a16 a17 a18 a19 a20 a21 a22 a23 a24 a25 (l := L id) p2 (by rw [p3]; exact y2) hid16 hx16 hne (by omega) (by omega) n2 hpid (fun hl a10 a11 a12 a13 hp => ?_) (fun hl l a10 a11 a12 a13 hp => ?_)
          · exact G1 _ cl pk pv a10 a11 a12 a13 a19 a20 a21 a22 a23 hmk (fit _ hmk h4 hl) hp
          · exact G0 l cl pk pv a10 a11 a12 a13 a19 a20 a21 a22 a23 (big _ hmk h4 hl) hp
end
end
section
/-! tidy, workOut -/
def ln_td {α : Type} (kp : Nat → Bool) (i S : Nat) (z : α) (L : Nat → α) : Nat → α := fun d => if i ≤ d ∧ d < S ∧ kp d = false then z else L d
theorem ln_td_t {α : Type} {kp : Nat → Bool} {i S d : Nat} {z : α} {L : Nat → α} (h : i ≤ d ∧ d < S ∧ kp d = false) : ln_td kp i S z L d = z := if_pos h
theorem ln_td_f {α : Type} {kp : Nat → Bool} {i S d : Nat} {z : α} {L : Nat → α} (h : ¬ (i ≤ d ∧ d < S ∧ kp d = false)) : ln_td kp i S z L d = L d := if_neg h
theorem ln_td_end {α : Type} {kp : Nat → Bool} {S : Nat} {z : α} {L : Nat → α} : ln_td kp S S z L = L := by
  funext d
  exact ln_td_f (by omega)
theorem ln_td_no {α : Type} {kp : Nat → Bool} {i S : Nat} {z : α} {L : Nat → α} (hi : i < S) (hk : kp i = false) : ln_td kp (i + 1) S z (ln_up L i z) = ln_td kp i S z L := by
  funext d
  by_cases hd : d = i
  · subst hd
    rw [ln_td_f (by omega), ln_us, ln_td_t ⟨Nat.le_refl _, hi, hk⟩]
  · by_cases h : i ≤ d ∧ d < S ∧ kp d = false
    · rw [ln_td_t ⟨by omega, h.2⟩, ln_td_t h]
    · rw [ln_td_f (fun h' => h ⟨by omega, h'.2⟩), ln_td_f h, ln_un hd]
theorem ln_td_yes {α : Type} {kp : Nat → Bool} {i S : Nat} {z : α} {L : Nat → α} (hk : kp i = true) : ln_td kp (i + 1) S z L = ln_td kp i S z L := by
  funext d
  by_cases hd : d = i
  · subst hd
    rw [ln_td_f (by omega), ln_td_f (by rw [hk]; simp)]
  · by_cases h : i ≤ d ∧ d < S ∧ kp d = false
    · rw [ln_td_t ⟨by omega, h.2⟩, ln_td_t h]
    · rw [ln_td_f (fun h' => h ⟨by omega, h'.2⟩), ln_td_f h]
def ln_kpt (a15 : Nat → Int32) (kp : Nat → Bool) : Prop := ∀ d, d < 16 → a15 d = if kp d = true then 1 else 0
/-- what is there, and it is right -/
def ln_dat (F : Nat → List ln_T) (S : Nat) (L : Nat → List ln_T) (T : Nat → Nat) (a10 a11 a12 a13 a14 : Nat → Int32) : Prop :=
  ln_pic a10 a11 a12 a13 L ∧ ln_msk a14 T ∧ (∀ d, d < S → ln_snd F L T d) ∧ L 0 = (F 0).filter (fun t => (T 0).testBit t.1) ∧ (∀ d, S ≤ d → d < 16 → T d = 0 ∧ L d = [])
def ln_qt (kp : Nat → Bool) (L : Nat → List ln_T) (T : Nat → Nat) : Prop := ∀ d, d < 16 → kp d = false → T d = 0 ∧ L d = []
theorem ln_snd_0 {F L : Nat → List ln_T} {T : Nat → Nat} {d : Nat} (hT : T d = 0) (hL : L d = []) : ln_snd F L T d := by
  intro q _
  rw [hT, hL, Nat.zero_testBit]
  rfl
theorem ln_snd_c {F L L' : Nat → List ln_T} {T T' : Nat → Nat} {d : Nat} (hT : T' d = T d) (hL : L' d = L d) (h : ln_snd F L T d) : ln_snd F L' T' d := by
  intro q hq
  rw [hT, hL]
  exact h q hq
theorem ln_ex0 {F L : Nat → List ln_T} {T : Nat → Nat} (hT : T 0 = 0) (hL : L 0 = []) : L 0 = (F 0).filter (fun t => (T 0).testBit t.1) := by
  rw [hL, hT, ln_fnil (fun t _ => Nat.zero_testBit _)]
section
variable (hc sc lv cl pk pv oc : Int32) (a1 a2 a3 a4 a5 a6 a7 a8 a9 a10 a11 a12 a13 a14 a15 a16 a17 a18 a19 a20 a21 a22 a23 a24 a25 : Nat → Int32)
theorem ln_tidy2 {post : St2 → Prop} {S : Nat} {kp : Nat → Bool} (hs : sc = nI S) (hS : S ≤ 16) (hk : ln_kpt a15 kp) :
    ∀ (c f i : Nat) (L : Nat → List ln_T) (T : Nat → Nat) (a10 a14 : Nat → Int32), i + c = S → c < f → ln_pic a10 a11 a12 a13 L → ln_msk a14 T →
    (∀ a10 a14 : Nat → Int32, ln_pic a10 a11 a12 a13 (ln_td kp i S [] L) → ln_msk a14 (ln_td kp i S 0 T) → post (hc, sc, lv, cl, pk, pv, oc, a1, a2, a3, a4, a5, a6, a7, a8, a9, a10, a11, a12, a13, a14, a15, a16, a17, a18, a19, a20, a21, a22, a23, a24, a25)) → wX_tidy_2 post f (nI i) hc sc lv cl pk pv oc a1 a2 a3 a4 a5 a6 a7 a8 a9 a10 a11 a12 a13 a14 a15 a16 a17 a18 a19 a20 a21 a22 a23 a24 a25 := by
  intro c
  induction c with
  | zero =>
    intro f i L T a10 a14 hi hf hp hT H
    obtain ⟨f, rfl⟩ : ∃ g, f = g + 1 := ⟨f - 1, by omega⟩
    have hiS : i = S := by omega
    subst hiS
    rw [ln_td_end, ln_td_end] at H
    exact pk_le i i (fun _ => H a10 a14 hp hT) (fun z => absurd z (by omega)) (hx := hs)
  | succ c ih =>
    intro f i L T a10 a14 hi hf hp hT H
    obtain ⟨f, rfl⟩ : ∃ g, f = g + 1 := ⟨f - 1, by omega⟩
    have e : (nI i).toNatClampNeg = i := nI_clamp (by omega)
    refine pk_le S i (fun z => absurd z (by omega)) (fun _ => ⟨pk_in i 16 (by omega), br_c (fun z => ?_) (fun z => nm_r (nI_1 i) ?_)⟩) (hx := hs)
    · rw [e, hk i (by omega)] at z
      have hki : kp i = false := by
        cases h : kp i with
        | false => rfl
        | true => rw [h] at z; exact absurd z (by decide)
      refine ln_forget hc sc lv cl pk pv oc a1 a2 a3 a4 a5 a6 a7 a8 a9 a10 a11 a12 a13 a14 a15 a16 a17 a18 a19 a20 a21 a22 a23 a24 a25 (by omega) (nm_r (nI_1 i) ?_)
      rw [← ln_td_no (by omega) hki, ← ln_td_no (by omega) hki] at H
      exact ih f (i + 1) (ln_up L i []) (ln_up T i 0) _ _ (by omega) (by omega) (ln_picF hp) (ln_mskU hT (by decide)) H
    · rw [e, hk i (by omega)] at z
      have hki : kp i = true := by
        cases h : kp i with
        | true => rfl
        | false => rw [h] at z; exact absurd rfl z
      rw [← ln_td_yes hki, ← ln_td_yes hki] at H
      exact ih f (i + 1) L T a10 a14 (by omega) (by omega) hp hT H
theorem ln_tidy {post : St2 → Prop} {S : Nat} {kp : Nat → Bool} {F L : Nat → List ln_T} {T : Nat → Nat} (hs : sc = nI S) (hS : S ≤ 16) (hS0 : 0 < S) (hk : ln_kpt a15 kp) (hk0 : kp 0 = false) (hd : ln_dat F S L T a10 a11 a12 a13 a14)
    (H : ∀ (L : Nat → List ln_T) (T : Nat → Nat) (a10 a14 : Nat → Int32), ln_dat F S L T a10 a11 a12 a13 a14 → ln_qt kp L T → post (hc, sc, lv, cl, pk, pv, oc, a1, a2, a3, a4, a5, a6, a7, a8, a9, a10, a11, a12, a13, a14, a15, a16, a17, a18, a19, a20, a21, a22, a23, a24, a25)) : wpX_tidy post (hc, sc, lv, cl, pk, pv, oc, a1, a2, a3, a4, a5, a6, a7, a8, a9, a10, a11, a12, a13, a14, a15, a16, a17, a18, a19, a20, a21, a22, a23, a24, a25) := by
  obtain ⟨d1, d2, d3, d4, d5⟩ := hd
  unfold wpX_tidy
  refine ⟨17, ln_tidy2 hc sc lv cl pk pv oc a1 a2 a3 a4 a5 a6 a7 a8 a9 a11 a12 a13 a15 a16 a17 a18 a19 a20 a21 a22 a23 a24 a25 hs hS hk S 17 0 L T a10 a14 (by omega) (by omega) d1 d2 (fun a10 a14 h1 h2 => H _ _ a10 a14 ⟨h1, h2, ?_, ?_, ?_⟩ ?_)⟩
  · intro d hd
    by_cases h : 0 ≤ d ∧ d < S ∧ kp d = false
    · exact ln_snd_0 (ln_td_t h) (ln_td_t h)
    · exact ln_snd_c (ln_td_f h) (ln_td_f h) (d3 d hd)
  · exact ln_ex0 (ln_td_t ⟨Nat.le_refl _, hS0, hk0⟩) (ln_td_t ⟨Nat.le_refl _, hS0, hk0⟩)
  · intro d hd hd2
    rw [ln_td_f (by omega), ln_td_f (by omega)]
    exact d5 d hd hd2
  · intro d hd hkd
    by_cases h : d < S
    · exact ⟨ln_td_t ⟨Nat.zero_le _, h, hkd⟩, ln_td_t ⟨Nat.zero_le _, h, hkd⟩⟩
    · rw [ln_td_f (by omega), ln_td_f (by omega)]
      exact d5 d (by omega) hd
theorem ln_work19 {post : Int32 → St2 → Prop} {R : List ln_T} {P : Nat → ln_PE} {F : Nat → List ln_T} {T0 N : Nat → Nat} {S d : Nat} {kp : Nat → Bool} {Bg : Nat → Prop}
    (hs : sc = nI S) (hpl : ln_pl a3 a4 a5 a6 P S) (hwf : ln_wf P S) (hfam : ln_fam R P F S) (hR : ln_rws a7 a8 a9 R) (hk : ln_kpt a15 kp) (hk0 : kp 0 = false) (hN : ln_msk a17 N) (hd : d < S) (hcl : ln_cls P T0 N d 0) (hT00 : T0 0 = 0) (ht : T0 d < 16)
    (hbig : ∀ j, j ≤ d → N j ≠ 0 → 48 < (F j).length → T0 j = 0 ∧ N j = 15 ∧ Bg j ∧ Bg d)
    (H1 : (∀ j, j ≤ d → N j ≠ 0 → (F j).length ≤ 48) → ∀ (L : Nat → List ln_T) (T : Nat → Nat) (cl pk pv : Int32) (a10 a11 a12 a13 a14 a16 a19 a20 a21 a22 a23 : Nat → Int32), ln_dat F S L T a10 a11 a12 a13 a14 → (∀ q, q < 4 → (T d).testBit q = true) → (∀ j, j < 16 → a16 j = 2 → Bg j) → post 1 (hc, sc, lv, cl, pk, pv, oc, a1, a2, a3, a4, a5, a6, a7, a8, a9, a10, a11, a12, a13, a14, a15, a16, a17, a18, a19, a20, a21, a22, a23, a24, a25))
    (H0 : (∃ j, j ≤ d ∧ N j ≠ 0 ∧ 48 < (F j).length) → ∀ (L : Nat → List ln_T) (T : Nat → Nat) (cl pk pv : Int32) (a10 a11 a12 a13 a14 a16 a19 a20 a21 a22 a23 : Nat → Int32), ln_dat F S L T a10 a11 a12 a13 a14 → ln_qt kp L T → (∀ j, j < 16 → a16 j = 2 → Bg j) → post 0 (hc, sc, lv, cl, pk, pv, oc, a1, a2, a3, a4, a5, a6, a7, a8, a9, a10, a11, a12, a13, a14, a15, a16, a17, a18, a19, a20, a21, a22, a23, a24, a25)) :
    ∀ (c f i : Nat) (L : Nat → List ln_T) (T : Nat → Nat) (cl pk pv : Int32) (a10 a11 a12 a13 a14 a16 a19 a20 a21 a22 a23 : Nat → Int32), i + c = d + 1 → c < f → ln_dat F S L T a10 a11 a12 a13 a14 → (∀ j, i ≤ j → T j = T0 j) → (∀ j, j < i → ∀ q, q < 4 → (T j).testBit q = ((T0 j).testBit q || (N j).testBit q)) → (∀ j, j < 16 → a16 j = 2 → Bg j) →
    (∀ j, j < i → N j ≠ 0 → (F j).length ≤ 48) → wX_workOut_19 post (nI d) f (nI i) hc sc lv cl pk pv oc a1 a2 a3 a4 a5 a6 a7 a8 a9 a10 a11 a12 a13 a14 a15 a16 a17 a18 a19 a20 a21 a22 a23 a24 a25 := by
  have hwf' := hwf
  obtain ⟨w1, w2, w3, w4⟩ := hwf
  obtain ⟨c0, c1, c2, c3, c4⟩ := hcl
  intro c
  induction c with
  | zero =>
    intro f i L T cl pk pv a10 a11 a12 a13 a14 a16 a19 a20 a21 a22 a23 hi hf hdat I1 I2 hB hfits
    obtain ⟨f, rfl⟩ : ∃ g, f = g + 1 := ⟨f - 1, by omega⟩
    refine pk_lt d i (fun _ => H1 (fun j hj => hfits j (by omega)) L T cl pk pv a10 a11 a12 a13 a14 a16 a19 a20 a21 a22 a23 hdat (fun q hq => ?_) hB) (fun z => absurd z (by omega))
    rw [I2 d (by omega) q hq, c1, ln_bcm _ ht q hq]
    cases (T0 d).testBit q <;> rfl
  | succ c ih =>
    intro f i L T cl pk pv a10 a11 a12 a13 a14 a16 a19 a20 a21 a22 a23 hi hf hdat I1 I2 hB hfits
    obtain ⟨f, rfl⟩ : ∃ g, f = g + 1 := ⟨f - 1, by omega⟩
    have e : (nI i).toNatClampNeg = i := nI_clamp (by omega)
    have ed : (nI d).toNatClampNeg = d := nI_clamp (by omega)
    have hiS : i < S := by omega
    have hi16 : vp_in (nI i) 16 := pk_in i 16 (by omega)
    obtain ⟨n1, n2⟩ := hN i (by omega)
    obtain ⟨k1, k2, k3, k4, k5⟩ := w4 i hiS
    refine pk_lt d i (fun z => absurd z (by omega)) (fun _ => ⟨hi16, pk_eq (N i) 0 (fun z => nm_r (nI_1 i) ?_) (fun z => ?_) (hx := by rw [e]; exact n1)⟩)
    · refine ih f (i + 1) L T cl pk pv a10 a11 a12 a13 a14 a16 a19 a20 a21 a22 a23 (by omega) (by omega) hdat (fun j hj => I1 j (by omega)) (fun j hj q hq => ?_) hB (fun j hj hn => ?_)
      · by_cases hji : j = i
        · subst hji
          rw [I1 j (Nat.le_refl _), z, Nat.zero_testBit, Bool.or_false]
        · exact I2 j (by omega) q hq
      · by_cases hji : j = i
        · subst hji
          exact absurd z hn
        · exact hfits j (by omega) hn
    · refine ln_passed hc sc lv cl pk pv oc a1 a2 a3 a4 a5 a6 a7 a8 a9 a10 a11 a12 a13 a14 a15 a16 a17 a18 a19 a20 a21 a22 a23 a24 a25 hpl hwf' hiS hd (by omega) (br_t rfl ?_)
      obtain ⟨d1, d2, d3, d4, d5⟩ := hdat
      refine ln_makeParts hc sc lv cl pk pv oc a1 a2 a3 a4 a5 a6 a7 a8 a9 a10 a11 a12 a13 a14 a15 a16 a17 a18 a19 a20 a21 a22 a23 a24 a25 hpl hwf' hfam hR d1 d2 hN hiS d3 d4 ?_ ?_ ?_ ?_ (fun hfit l cl pk pv a10 a11 a12 a13 a14 a19 a20 a21 a22 a23 hp hT hmk hl0 => br_f (by decide) (nm_r (nI_1 i) ?_)) (fun hb l cl pk pv a10 a11 a12 a13 a14 a19 a20 a21 a22 a23 hp hT => br_t rfl ⟨hi16, nm_r (e' := upd a16 i 2) (by rw [e]) ⟨pk_in d 16 (by omega), nm_r (e' := upd (upd a16 i 2) d 2) (by rw [ed]) ?_⟩⟩)
      · intro hP0 x hx q hq hw
        have hi0 : i ≠ 0 := fun h => hP0 (by rw [h]; exact w3)
        have hxi : x < i := by
          rcases hx with h | ⟨h, h2⟩
          · have := (k3 hi0).2; omega
          · have := (k4 h).1; omega
        rw [I2 x hxi q hq]
        rcases c4 i (Nat.zero_le _) (by omega) z hP0 x hx q hq hw with h | h
        · rw [h, Bool.true_or]
        · rw [h, Bool.or_true]
      · intro q hq hb
        rw [I1 i (Nat.le_refl _)]
        exact c3 i q (by omega) hq hb
      · intro h
        rw [I1 0 (by omega)]
        exact hT00
      · intro hb
        obtain ⟨b1, b2, b3, b4⟩ := hbig i (by omega) z hb
        rw [I1 i (Nat.le_refl _)]
        exact ⟨b1, b2⟩
      · refine ih f (i + 1) (ln_up L i l) (ln_up T i (T i ||| N i)) cl pk pv a10 a11 a12 a13 a14 _ a19 a20 a21 a22 a23 (by omega) (by omega) ⟨hp, hT, ?_, ?_, ?_⟩ (fun j hj => ?_) (fun j hj q hq => ?_) (fun j hj h2 => ?_) (fun j hj hn => ?_)
        · intro j hj
          by_cases hji : j = i
          · subst hji
            exact ln_mk_snd (d3 j hj) hmk
          · exact ln_snd_c (ln_un hji) (ln_un hji) (d3 j hj)
        · by_cases hi0 : i = 0
          · subst hi0
            rw [ln_us, ln_us, hl0 rfl, I1 0 (Nat.le_refl _), hT00, Nat.zero_or]
          · rw [ln_un (Ne.symm hi0), ln_un (Ne.symm hi0)]
            exact d4
        · intro j hj hj2
          rw [ln_un (by omega), ln_un (by omega)]
          exact d5 j hj hj2
        · rw [ln_un (by omega)]
          exact I1 j (by omega)
        · by_cases hji : j = i
          · subst hji
            rw [ln_us, Nat.testBit_or, I1 j (Nat.le_refl _)]
          · rw [ln_un hji]
            exact I2 j (by omega) q hq
        · by_cases hji : j = i
          · subst hji
            rw [pk_us] at h2
            exact absurd h2 (by decide)
          · rw [pk_un hji] at h2
            exact hB j hj h2
        · by_cases hji : j = i
          · subst hji
            exact hfit
          · exact hfits j (by omega) hn
      · obtain ⟨b1, b2, b3, b4⟩ := hbig i (by omega) z hb
        have hB' : ∀ j, j < 16 → upd (upd a16 i 2) d 2 j = 2 → Bg j := by
          intro j hj h2
          by_cases hjd : j = d
          · rw [hjd]; exact b4
          · rw [pk_un hjd] at h2
            by_cases hji : j = i
            · rw [hji]; exact b3
            · rw [pk_un hji] at h2
              exact hB j hj h2
        unfold wpX_tidy
        refine ⟨17, ln_tidy2 hc sc lv cl pk pv oc a1 a2 a3 a4 a5 a6 a7 a8 a9 a11 a12 a13 a15 (upd (upd a16 i 2) d 2) a17 a18 a19 a20 a21 a22 a23 a24 a25 hs w1 hk S 17 0 _ _ a10 a14 (by omega) (by omega) hp hT (fun a10 a14 h1 h2 => ?_)⟩
        refine ln_forget hc sc lv cl pk pv oc a1 a2 a3 a4 a5 a6 a7 a8 a9 a10 a11 a12 a13 a14 a15 (upd (upd a16 i 2) d 2) a17 a18 a19 a20 a21 a22 a23 a24 a25 (by omega) ?_
        have q1 : ∀ j, j < 16 → kp j = false → ln_up (ln_td kp 0 S 0 (ln_up T i (T i ||| N i))) i 0 j = 0 ∧ ln_up (ln_td kp 0 S [] (ln_up L i l)) i [] j = [] := by
          intro j hj hkj
          by_cases hji : j = i
          · subst hji
            rw [ln_us, ln_us]
            exact ⟨rfl, rfl⟩
          · rw [ln_un hji, ln_un hji]
            by_cases hjS : j < S
            · exact ⟨ln_td_t ⟨Nat.zero_le _, hjS, hkj⟩, ln_td_t ⟨Nat.zero_le _, hjS, hkj⟩⟩
            · rw [ln_td_f (by omega), ln_td_f (by omega), ln_un hji, ln_un hji]
              exact d5 j (by omega) hj
        refine H0 ⟨i, by omega, z, hb⟩ _ _ cl pk pv _ a11 a12 a13 _ _ a19 a20 a21 a22 a23 ⟨ln_picF h1, ln_mskU h2 (by decide), ?_, ?_, ?_⟩ q1 hB'
        · intro j hj
          by_cases hji : j = i
          · subst hji
            exact ln_snd_0 (ln_us _ _ _) (ln_us _ _ _)
          · cases hkj : kp j with
            | false => exact ln_snd_0 (q1 j (by omega) hkj).1 (q1 j (by omega) hkj).2
            | true =>
              refine ln_snd_c (T := T) (L := L) ?_ ?_ (d3 j hj)
              · rw [ln_un hji, ln_td_f (by rw [hkj]; simp), ln_un hji]
              · rw [ln_un hji, ln_td_f (by rw [hkj]; simp), ln_un hji]
        · exact ln_ex0 (q1 0 (by decide) hk0).1 (q1 0 (by decide) hk0).2
        · intro j hj hj2
          rw [ln_un (by omega), ln_un (by omega), ln_td_f (by omega), ln_td_f (by omega), ln_un (by omega), ln_un (by omega)]
          exact d5 j hj hj2
end
end
section
/-! workOut; the quiet state -/
def ln_Q (R : List ln_T) (P : Nat → ln_PE) (F : Nat → List ln_T) (S : Nat) (kp : Nat → Bool) (Bg : Nat → Prop) (u : St2) : Prop := match u with
  | (hc, sc, lv, cl, pk, pv, oc, a1, a2, a3, a4, a5, a6, a7, a8, a9, a10, a11, a12, a13, a14, a15, a16, a17, a18, a19, a20, a21, a22, a23, a24, a25) => sc = nI S ∧ ln_pl a3 a4 a5 a6 P S ∧ ln_rws a7 a8 a9 R ∧ ln_kpt a15 kp ∧ (∀ j, j < 16 → a16 j = 2 → Bg j) ∧ ∃ (L : Nat → List ln_T) (T : Nat → Nat), ln_dat F S L T a10 a11 a12 a13 a14 ∧ ln_qt kp L T
/-- the state with set d made -/
def ln_M (R : List ln_T) (P : Nat → ln_PE) (F : Nat → List ln_T) (S : Nat) (kp : Nat → Bool) (Bg : Nat → Prop) (d : Nat) (L : Nat → List ln_T) (u : St2) : Prop := match u with
  | (hc, sc, lv, cl, pk, pv, oc, a1, a2, a3, a4, a5, a6, a7, a8, a9, a10, a11, a12, a13, a14, a15, a16, a17, a18, a19, a20, a21, a22, a23, a24, a25) => sc = nI S ∧ ln_pl a3 a4 a5 a6 P S ∧ ln_rws a7 a8 a9 R ∧ ln_kpt a15 kp ∧ (∀ j, j < 16 → a16 j = 2 → Bg j) ∧ (L d).Perm (F d) ∧ ∃ T : Nat → Nat, ln_dat F S L T a10 a11 a12 a13 a14
def ln_st0 (R : List ln_T) (P : Nat → ln_PE) (F : Nat → List ln_T) (S : Nat) (kp : Nat → Bool) : Prop := ln_wf P S ∧ ln_fam R P F S ∧ kp 0 = false
theorem ln_tidyM {post : St2 → Prop} {R : List ln_T} {P : Nat → ln_PE} {F L : Nat → List ln_T} {S d : Nat} {kp : Nat → Bool} {Bg : Nat → Prop} (h0 : ln_st0 R P F S kp) (hc sc lv cl pk pv oc : Int32) (a1 a2 a3 a4 a5 a6 a7 a8 a9 a10 a11 a12 a13 a14 a15 a16 a17 a18 a19 a20 a21 a22 a23 a24 a25 : Nat → Int32) (hM : ln_M R P F S kp Bg d L (hc, sc, lv, cl, pk, pv, oc, a1, a2, a3, a4, a5, a6, a7, a8, a9, a10, a11, a12, a13, a14, a15, a16, a17, a18, a19, a20, a21, a22, a23, a24, a25))
    (H : ∀ a10 a14 : Nat → Int32, ln_Q R P F S kp Bg (hc, sc, lv, cl, pk, pv, oc, a1, a2, a3, a4, a5, a6, a7, a8, a9, a10, a11, a12, a13, a14, a15, a16, a17, a18, a19, a20, a21, a22, a23, a24, a25) → post (hc, sc, lv, cl, pk, pv, oc, a1, a2, a3, a4, a5, a6, a7, a8, a9, a10, a11, a12, a13, a14, a15, a16, a17, a18, a19, a20, a21, a22, a23, a24, a25)) : wpX_tidy post (hc, sc, lv, cl, pk, pv, oc, a1, a2, a3, a4, a5, a6, a7, a8, a9, a10, a11, a12, a13, a14, a15, a16, a17, a18, a19, a20, a21, a22, a23, a24, a25) := by
  obtain ⟨s1, s2, s3⟩ := h0
  obtain ⟨m1, m2, m3, m4, m5, m6, T, m7⟩ := hM
  exact ln_tidy hc sc lv cl pk pv oc a1 a2 a3 a4 a5 a6 a7 a8 a9 a10 a11 a12 a13 a14 a15 a16 a17 a18 a19 a20 a21 a22 a23 a24 a25 m1 s1.1 s1.2.1 m4 s3 m7 (fun L T a10 a14 hd hq => H a10 a14 ⟨m1, m2, m3, m4, m5, L, T, hd, hq⟩)
theorem ln_workOutG {post : Int32 → St2 → Prop} {R : List ln_T} {P : Nat → ln_PE} {F : Nat → List ln_T} {S d : Nat} {kp : Nat → Bool} {Bg : Nat → Prop} (h0 : ln_st0 R P F S kp) (hc sc lv cl pk pv oc : Int32) (a1 a2 a3 a4 a5 a6 a7 a8 a9 a10 a11 a12 a13 a14 a15 a16 a17 a18 a19 a20 a21 a22 a23 a24 a25 : Nat → Int32) (hQ : ln_Q R P F S kp Bg (hc, sc, lv, cl, pk, pv, oc, a1, a2, a3, a4, a5, a6, a7, a8, a9, a10, a11, a12, a13, a14, a15, a16, a17, a18, a19, a20, a21, a22, a23, a24, a25)) (hd : d < S) (hfit : ∀ N, ln_upb P N d → ∀ j, j ≤ d → N j ≠ 0 → (F j).length ≤ 48) (hnB : ¬ Bg d)
    (H : ∀ (L : Nat → List ln_T) (cl pk pv : Int32) (a10 a11 a12 a13 a14 a16 a17 a18 a19 a20 a21 a22 a23 : Nat → Int32), ln_M R P F S kp Bg d L (hc, sc, lv, cl, pk, pv, oc, a1, a2, a3, a4, a5, a6, a7, a8, a9, a10, a11, a12, a13, a14, a15, a16, a17, a18, a19, a20, a21, a22, a23, a24, a25) → post 1 (hc, sc, lv, cl, pk, pv, oc, a1, a2, a3, a4, a5, a6, a7, a8, a9, a10, a11, a12, a13, a14, a15, a16, a17, a18, a19, a20, a21, a22, a23, a24, a25)) : wpX_workOut post (hc, sc, lv, cl, pk, pv, oc, a1, a2, a3, a4, a5, a6, a7, a8, a9, a10, a11, a12, a13, a14, a15, a16, a17, a18, a19, a20, a21, a22, a23, a24, a25) (nI d) := by
  obtain ⟨s1, s2, s3⟩ := h0
  obtain ⟨m1, m2, m3, m4, m5, L, T, m6, m7⟩ := hQ
  have h16 := s1.1
  have e : (nI d).toNatClampNeg = d := nI_clamp (by omega)
  unfold wpX_workOut
  refine ⟨pk_in d 16 (by omega), br_f (fun z => hnB (m5 d (by omega) (by rw [e] at z; exact z))) ?_⟩
  refine ln_findNeeded hc sc lv cl pk pv oc a1 a2 a3 a4 a5 a6 a7 a8 a9 a10 a11 a12 a13 a14 a15 a16 a17 a18 a19 a20 a21 a22 a23 a24 a25 m2 s1 hd m6.2.1 (fun N a17 a18 hN hcl => ⟨d + 2, ?_⟩)
  refine ln_work19 hc sc lv oc a1 a2 a3 a4 a5 a6 a7 a8 a9 a15 a17 a18 a24 a25 (Bg := Bg) m1 m2 s1 s2 m3 m4 s3 hN hd hcl (m7 0 (by decide) s3).1 (m6.2.1 d (by omega)).2 (fun j hj hn hb => absurd (hfit N hcl.1 j hj hn) (by omega)) ?_ ?_ (d + 1) (d + 2) 0 L T cl pk pv a10 a11 a12 a13 a14 a16 a19 a20 a21 a22 a23 (by omega) (by omega) m6 (fun j _ => rfl) (fun j hj => absurd hj (by omega)) m5 (fun j hj => absurd hj (by omega))
  · intro _ L T cl pk pv a10 a11 a12 a13 a14 a16 a19 a20 a21 a22 a23 hdat hfull hB
    refine H L cl pk pv a10 a11 a12 a13 a14 a16 a17 a18 a19 a20 a21 a22 a23 ⟨m1, m2, m3, m4, hB, ?_, T, hdat⟩
    exact ln_snd_perm (hdat.2.2.1 d hd) hfull (ln_pic4 hdat.1 (by omega)) (fun t ht => ((s2 d hd).2.1 t ht).1)
  · rintro ⟨j, hj, hn, hb⟩
    exact absurd (hfit N hcl.1 j hj hn) (by omega)
theorem ln_workOutB {post : Int32 → St2 → Prop} {R : List ln_T} {P : Nat → ln_PE} {F : Nat → List ln_T} {S d b : Nat} {kp : Nat → Bool} {Bg : Nat → Prop} (h0 : ln_st0 R P F S kp) (hc sc lv cl pk pv oc : Int32) (a1 a2 a3 a4 a5 a6 a7 a8 a9 a10 a11 a12 a13 a14 a15 a16 a17 a18 a19 a20 a21 a22 a23 a24 a25 : Nat → Int32) (hQ : ln_Q R P F S kp Bg (hc, sc, lv, cl, pk, pv, oc, a1, a2, a3, a4, a5, a6, a7, a8, a9, a10, a11, a12, a13, a14, a15, a16, a17, a18, a19, a20, a21, a22, a23, a24, a25)) (hd : d < S) (hfit : ∀ j, j ≤ d → j ≠ b → (F j).length ≤ 48) (hb : 48 < (F b).length) (hbd : d = b ∨ (b < d ∧ ln_wide (P d).1 = true ∧ ln_src P d b ∧ (P d).1 ≠ 0)) (hkb : kp b = false) (hkd : kp d = false) (hBb : Bg b) (hBd : Bg d)
    (H : ∀ (cl pk pv : Int32) (a10 a11 a12 a13 a14 a16 a17 a18 a19 a20 a21 a22 a23 : Nat → Int32), ln_Q R P F S kp Bg (hc, sc, lv, cl, pk, pv, oc, a1, a2, a3, a4, a5, a6, a7, a8, a9, a10, a11, a12, a13, a14, a15, a16, a17, a18, a19, a20, a21, a22, a23, a24, a25) → post 0 (hc, sc, lv, cl, pk, pv, oc, a1, a2, a3, a4, a5, a6, a7, a8, a9, a10, a11, a12, a13, a14, a15, a16, a17, a18, a19, a20, a21, a22, a23, a24, a25)) : wpX_workOut post (hc, sc, lv, cl, pk, pv, oc, a1, a2, a3, a4, a5, a6, a7, a8, a9, a10, a11, a12, a13, a14, a15, a16, a17, a18, a19, a20, a21, a22, a23, a24, a25) (nI d) := by
  have hQ' := hQ
  obtain ⟨s1, s2, s3⟩ := h0
  obtain ⟨m1, m2, m3, m4, m5, L, T, m6, m7⟩ := hQ
  have h16 := s1.1
  have hb16 : b < 16 := by omega
  have hbled : b ≤ d := by omega
  have e : (nI d).toNatClampNeg = d := nI_clamp (by omega)
  unfold wpX_workOut
  refine ⟨pk_in d 16 (by omega), br_c (fun z => H cl pk pv a10 a11 a12 a13 a14 a16 a17 a18 a19 a20 a21 a22 a23 hQ') (fun z => ?_)⟩
  refine ln_findNeeded hc sc lv cl pk pv oc a1 a2 a3 a4 a5 a6 a7 a8 a9 a10 a11 a12 a13 a14 a15 a16 a17 a18 a19 a20 a21 a22 a23 a24 a25 m2 s1 hd m6.2.1 (fun N a17 a18 hN hcl => ⟨d + 2, ?_⟩)
  have hTb : T b = 0 := (m7 b hb16 hkb).1
  have hTd : T d = 0 := (m7 d (by omega) hkd).1
  have hNd : N d = 15 := by rw [hcl.2.1, hTd]
  have hNb : N b = 15 := by
    rcases hbd with h | ⟨h1, h2, h3, h4⟩
    · rw [← h]; exact hNd
    · refine ln_full (hN b hb16).2 (fun q hq => ?_)
      rcases hcl.2.2.2.2 d (Nat.zero_le _) (Nat.le_refl _) (by rw [hNd]; decide) h4 b h3 q hq (Or.inl h2) with h | h
      · rw [hTb, Nat.zero_testBit] at h
        exact absurd h (by decide)
      · exact h
  refine ln_work19 hc sc lv oc a1 a2 a3 a4 a5 a6 a7 a8 a9 a15 a17 a18 a24 a25 (Bg := Bg) m1 m2 s1 s2 m3 m4 s3 hN hd hcl (m7 0 (by decide) s3).1 (m6.2.1 d (by omega)).2 ?_ ?_ ?_ (d + 1) (d + 2) 0 L T cl pk pv a10 a11 a12 a13 a14 a16 a19 a20 a21 a22 a23 (by omega) (by omega) m6 (fun j _ => rfl) (fun j hj => absurd hj (by omega)) m5 (fun j hj => absurd hj (by omega))
  · intro j hj _ hbj
    by_cases hjb : j = b
    · subst hjb
      exact ⟨hTb, hNb, hBb, hBd⟩
    · exact absurd (hfit j hj hjb) (by omega)
  · intro hf
    exact absurd (hf b hbled (by rw [hNb]; decide)) (by omega)
  · intro _ L T cl pk pv a10 a11 a12 a13 a14 a16 a19 a20 a21 a22 a23 hdat hq hB
    exact H cl pk pv a10 a11 a12 a13 a14 a16 a17 a18 a19 a20 a21 a22 a23 ⟨m1, m2, m3, m4, hB, L, T, hdat, hq⟩
/-! count, total, lookup -/
theorem ln_count {post : Int32 → St2 → Prop} {R : List ln_T} {P : Nat → ln_PE} {F : Nat → List ln_T} {S d : Nat} {kp : Nat → Bool} {Bg : Nat → Prop} (h0 : ln_st0 R P F S kp) (u : St2) (hQ : ln_Q R P F S kp Bg u) (hd : d < S) (hfit : ∀ N, ln_upb P N d → ∀ j, j ≤ d → N j ≠ 0 → (F j).length ≤ 48) (hnB : ¬ Bg d)
    (H : ∀ u : St2, ln_Q R P F S kp Bg u → post (nI (F d).length) u) : wpX_count post u (nI d) := by
  obtain ⟨hc, sc, lv, cl, pk, pv, oc, a1, a2, a3, a4, a5, a6, a7, a8, a9, a10, a11, a12, a13, a14, a15, a16, a17, a18, a19, a20, a21, a22, a23, a24, a25⟩ := u
  have h16 := h0.1.1
  have e : (nI d).toNatClampNeg = d := nI_clamp (by omega)
  unfold wpX_count
  refine ln_isSet hc sc lv cl pk pv oc a1 a2 a3 a4 a5 a6 a7 a8 a9 a10 a11 a12 a13 a14 a15 a16 a17 a18 a19 a20 a21 a22 a23 a24 a25 hQ.1 (by omega) (by omega) (fun _ => br_f (by decide) ?_) (fun z => absurd z (by omega))
  refine ln_workOutG h0 hc sc lv cl pk pv oc a1 a2 a3 a4 a5 a6 a7 a8 a9 a10 a11 a12 a13 a14 a15 a16 a17 a18 a19 a20 a21 a22 a23 a24 a25 hQ hd hfit hnB (fun L cl pk pv a10 a11 a12 a13 a14 a16 a17 a18 a19 a20 a21 a22 a23 hM => br_f (by decide) ⟨pk_in d 16 (by omega), nm_r (e' := nI (F d).length) ?_ ?_⟩)
  · obtain ⟨m1, m2, m3, m4, m5, m6, T, m7⟩ := hM
    rw [e, (m7.1 d (by omega)).1, m6.length_eq]
  · exact ln_tidyM h0 hc sc lv cl pk pv oc a1 a2 a3 a4 a5 a6 a7 a8 a9 a10 a11 a12 a13 a14 a15 a16 a17 a18 a19 a20 a21 a22 a23 a24 a25 hM (fun a10 a14 hQ => H _ hQ)
theorem ln_countB {post : Int32 → St2 → Prop} {R : List ln_T} {P : Nat → ln_PE} {F : Nat → List ln_T} {S d b : Nat} {kp : Nat → Bool} {Bg : Nat → Prop} (h0 : ln_st0 R P F S kp) (u : St2) (hQ : ln_Q R P F S kp Bg u) (hd : d < S) (hfit : ∀ j, j ≤ d → j ≠ b → (F j).length ≤ 48) (hb : 48 < (F b).length) (hbd : d = b ∨ (b < d ∧ ln_wide (P d).1 = true ∧ ln_src P d b ∧ (P d).1 ≠ 0)) (hkb : kp b = false) (hkd : kp d = false) (hBb : Bg b) (hBd : Bg d)
    (H : ∀ u : St2, ln_Q R P F S kp Bg u → post (-3) u) : wpX_count post u (nI d) := by
  obtain ⟨hc, sc, lv, cl, pk, pv, oc, a1, a2, a3, a4, a5, a6, a7, a8, a9, a10, a11, a12, a13, a14, a15, a16, a17, a18, a19, a20, a21, a22, a23, a24, a25⟩ := u
  have h16 := h0.1.1
  unfold wpX_count
  refine ln_isSet hc sc lv cl pk pv oc a1 a2 a3 a4 a5 a6 a7 a8 a9 a10 a11 a12 a13 a14 a15 a16 a17 a18 a19 a20 a21 a22 a23 a24 a25 hQ.1 (by omega) (by omega) (fun _ => br_f (by decide) ?_) (fun z => absurd z (by omega))
  exact ln_workOutB h0 hc sc lv cl pk pv oc a1 a2 a3 a4 a5 a6 a7 a8 a9 a10 a11 a12 a13 a14 a15 a16 a17 a18 a19 a20 a21 a22 a23 a24 a25 hQ hd hfit hb hbd hkb hkd hBb hBd (fun cl pk pv a10 a11 a12 a13 a14 a16 a17 a18 a19 a20 a21 a22 a23 hQ => br_t rfl (H _ hQ))
theorem ln_countN {post : Int32 → St2 → Prop} {R : List ln_T} {P : Nat → ln_PE} {F : Nat → List ln_T} {S d : Nat} {kp : Nat → Bool} {Bg : Nat → Prop} (h0 : ln_st0 R P F S kp) (u : St2) (hQ : ln_Q R P F S kp Bg u) (hd : S ≤ d) (hd2 : d < 100)
    (H : post (-1) u) : wpX_count post u (nI d) := by
  obtain ⟨hc, sc, lv, cl, pk, pv, oc, a1, a2, a3, a4, a5, a6, a7, a8, a9, a10, a11, a12, a13, a14, a15, a16, a17, a18, a19, a20, a21, a22, a23, a24, a25⟩ := u
  have h16 := h0.1.1
  unfold wpX_count
  exact ln_isSet hc sc lv cl pk pv oc a1 a2 a3 a4 a5 a6 a7 a8 a9 a10 a11 a12 a13 a14 a15 a16 a17 a18 a19 a20 a21 a22 a23 a24 a25 hQ.1 (by omega) (by omega) (fun z => absurd z (by omega)) (fun _ => br_t rfl H)
def ln_v (t : ln_T) : Int32 := t.2.2
theorem ln_total25 {post : Int32 → St2 → Prop} {R : List ln_T} {P : Nat → ln_PE} {F L : Nat → List ln_T} {S d : Nat} {kp : Nat → Bool} {Bg : Nat → Prop} (h0 : ln_st0 R P F S kp) (hc sc lv cl pk pv oc : Int32) (a1 a2 a3 a4 a5 a6 a7 a8 a9 a10 a11 a12 a13 a14 a15 a16 a17 a18 a19 a20 a21 a22 a23 a24 a25 : Nat → Int32) (hd : d < S) (hM : ln_M R P F S kp Bg d L (hc, sc, lv, cl, pk, pv, oc, a1, a2, a3, a4, a5, a6, a7, a8, a9, a10, a11, a12, a13, a14, a15, a16, a17, a18, a19, a20, a21, a22, a23, a24, a25))
    (H : ∀ a10 a14 : Nat → Int32, ln_Q R P F S kp Bg (hc, sc, lv, cl, pk, pv, oc, a1, a2, a3, a4, a5, a6, a7, a8, a9, a10, a11, a12, a13, a14, a15, a16, a17, a18, a19, a20, a21, a22, a23, a24, a25) → post (ln_sm ln_v (L d)) (hc, sc, lv, cl, pk, pv, oc, a1, a2, a3, a4, a5, a6, a7, a8, a9, a10, a11, a12, a13, a14, a15, a16, a17, a18, a19, a20, a21, a22, a23, a24, a25)) :
    ∀ (r : List ln_T) (f j : Nat) (s : Int32), (L d).drop j = r → r.length < f → j ≤ 48 → s + ln_sm ln_v r = ln_sm ln_v (L d) → wX_total_25 post (nI d) hc sc lv cl pk pv oc a1 a2 a3 a4 a5 a6 a7 a8 a9 a10 a11 a12 a13 a14 a15 a16 a17 a18 a19 a20 a21 a22 a23 a24 a25 f s (nI (48 * d + j)) := by
  have h16 := h0.1.1
  obtain ⟨m1, m2, m3, m4, m5, m6, T, m7⟩ := id hM
  have hp := m7.1
  intro r
  induction r with
  | nil =>
    intro f j s hr hf hj hs
    obtain ⟨f, rfl⟩ : ∃ g, f = g + 1 := ⟨f - 1, by omega⟩
    refine ⟨pk_in d 16 (by omega), br_t (ln_hnil hp (by omega) hj hr) ?_⟩
    have e : s = ln_sm ln_v (L d) := by
      rw [← hs]
      show s = s + 0
      rw [Int32.add_zero]
    rw [e]
    exact ln_tidyM h0 hc sc lv cl pk pv oc a1 a2 a3 a4 a5 a6 a7 a8 a9 a10 a11 a12 a13 a14 a15 a16 a17 a18 a19 a20 a21 a22 a23 a24 a25 hM H
  | cons t r ih =>
    intro f j s hr hf hj hs
    obtain ⟨f, rfl⟩ : ∃ g, f = g + 1 := ⟨f - 1, by omega⟩
    obtain ⟨g1, g2, g3, g4, g5, g6, g7, g8, g9⟩ := ln_hcons hp (show d < 16 by omega) hr
    have hf' : r.length < f := by simp at hf; omega
    refine ⟨pk_in d 16 (by omega), br_f g1 ⟨g3, nm_r (e' := s + t.2.2) (by rw [g6]) (nm_r (ln_ad1 _ _) ?_)⟩⟩
    refine ih f (j + 1) _ g9 hf' (by omega) ?_
    rw [← hs, Int32.add_assoc]
    rfl
theorem ln_total {post : Int32 → St2 → Prop} {R : List ln_T} {P : Nat → ln_PE} {F : Nat → List ln_T} {S d : Nat} {kp : Nat → Bool} {Bg : Nat → Prop} (h0 : ln_st0 R P F S kp) (u : St2) (hQ : ln_Q R P F S kp Bg u) (hd : d < S) (hfit : ∀ N, ln_upb P N d → ∀ j, j ≤ d → N j ≠ 0 → (F j).length ≤ 48) (hnB : ¬ Bg d)
    (H : ∀ u : St2, ln_Q R P F S kp Bg u → post (ln_sm ln_v (F d)) u) : wpX_total post u (nI d) := by
  obtain ⟨hc, sc, lv, cl, pk, pv, oc, a1, a2, a3, a4, a5, a6, a7, a8, a9, a10, a11, a12, a13, a14, a15, a16, a17, a18, a19, a20, a21, a22, a23, a24, a25⟩ := u
  have h16 := h0.1.1
  unfold wpX_total
  refine ln_isSet hc sc lv cl pk pv oc a1 a2 a3 a4 a5 a6 a7 a8 a9 a10 a11 a12 a13 a14 a15 a16 a17 a18 a19 a20 a21 a22 a23 a24 a25 hQ.1 (by omega) (by omega) (fun _ => br_f (by decide) ?_) (fun z => absurd z (by omega))
  refine ln_workOutG h0 hc sc lv cl pk pv oc a1 a2 a3 a4 a5 a6 a7 a8 a9 a10 a11 a12 a13 a14 a15 a16 a17 a18 a19 a20 a21 a22 a23 a24 a25 hQ hd hfit hnB (fun L cl pk pv a10 a11 a12 a13 a14 a16 a17 a18 a19 a20 a21 a22 a23 hM => br_f (by decide) (nm_r (ln_m48 d) ⟨49, ?_⟩))
  obtain ⟨m1, m2, m3, m4, m5, m6, T, m7⟩ := id hM
  have hlen := (m7.1 d (by omega)).2.1
  refine ln_total25 h0 hc sc lv cl pk pv oc a1 a2 a3 a4 a5 a6 a7 a8 a9 a10 a11 a12 a13 a14 a15 a16 a17 a18 a19 a20 a21 a22 a23 a24 a25 hd hM (fun a10 a14 hQ => ?_) (L d) 49 0 0 rfl (by omega) (by omega) (by rw [Int32.zero_add])
  rw [ln_sm_perm m6]
  exact H _ hQ
theorem ln_totalB {post : Int32 → St2 → Prop} {R : List ln_T} {P : Nat → ln_PE} {F : Nat → List ln_T} {S d b : Nat} {kp : Nat → Bool} {Bg : Nat → Prop} (h0 : ln_st0 R P F S kp) (u : St2) (hQ : ln_Q R P F S kp Bg u) (hd : d < S) (hfit : ∀ j, j ≤ d → j ≠ b → (F j).length ≤ 48) (hb : 48 < (F b).length) (hbd : d = b ∨ (b < d ∧ ln_wide (P d).1 = true ∧ ln_src P d b ∧ (P d).1 ≠ 0)) (hkb : kp b = false) (hkd : kp d = false) (hBb : Bg b) (hBd : Bg d)
    (H : ∀ u : St2, ln_Q R P F S kp Bg u → post 0 u) : wpX_total post u (nI d) := by
  obtain ⟨hc, sc, lv, cl, pk, pv, oc, a1, a2, a3, a4, a5, a6, a7, a8, a9, a10, a11, a12, a13, a14, a15, a16, a17, a18, a19, a20, a21, a22, a23, a24, a25⟩ := u
  have h16 := h0.1.1
  unfold wpX_total
  refine ln_isSet hc sc lv cl pk pv oc a1 a2 a3 a4 a5 a6 a7 a8 a9 a10 a11 a12 a13 a14 a15 a16 a17 a18 a19 a20 a21 a22 a23 a24 a25 hQ.1 (by omega) (by omega) (fun _ => br_f (by decide) ?_) (fun z => absurd z (by omega))
  exact ln_workOutB h0 hc sc lv cl pk pv oc a1 a2 a3 a4 a5 a6 a7 a8 a9 a10 a11 a12 a13 a14 a15 a16 a17 a18 a19 a20 a21 a22 a23 a24 a25 hQ hd hfit hb hbd hkb hkd hBb hBd (fun cl pk pv a10 a11 a12 a13 a14 a16 a17 a18 a19 a20 a21 a22 a23 hQ => br_t rfl (H _ hQ))
theorem ln_look26 {post : Int32 → St2 → Prop} {R : List ln_T} {P : Nat → ln_PE} {F L : Nat → List ln_T} {S d k : Nat} {kp : Nat → Bool} {Bg : Nat → Prop} (h0 : ln_st0 R P F S kp) (hc sc lv cl pk pv oc : Int32) (a1 a2 a3 a4 a5 a6 a7 a8 a9 a10 a11 a12 a13 a14 a15 a16 a17 a18 a19 a20 a21 a22 a23 a24 a25 : Nat → Int32) (hd : d < S) (hk : k < 1000) (hM : ln_M R P F S kp Bg d L (hc, sc, lv, cl, pk, pv, oc, a1, a2, a3, a4, a5, a6, a7, a8, a9, a10, a11, a12, a13, a14, a15, a16, a17, a18, a19, a20, a21, a22, a23, a24, a25))
    (H : ∀ a10 a14 : Nat → Int32, ln_Q R P F S kp Bg (hc, sc, lv, cl, pk, pv, oc, a1, a2, a3, a4, a5, a6, a7, a8, a9, a10, a11, a12, a13, a14, a15, a16, a17, a18, a19, a20, a21, a22, a23, a24, a25) → post (ln_sm ln_v ((L d).filter (ln_ky k))) (hc, sc, lv, cl, pk, pv, oc, a1, a2, a3, a4, a5, a6, a7, a8, a9, a10, a11, a12, a13, a14, a15, a16, a17, a18, a19, a20, a21, a22, a23, a24, a25)) :
    ∀ (r : List ln_T) (f j : Nat) (s : Int32), (L d).drop j = r → r.length < f → j ≤ 48 → s + ln_sm ln_v (r.filter (ln_ky k)) = ln_sm ln_v ((L d).filter (ln_ky k)) → wX_lookup_26 post (nI d) (nI k) hc sc lv cl pk pv oc a1 a2 a3 a4 a5 a6 a7 a8 a9 a10 a11 a12 a13 a14 a15 a16 a17 a18 a19 a20 a21 a22 a23 a24 a25 f s (nI (48 * d + j)) := by
  have h16 := h0.1.1
  obtain ⟨m1, m2, m3, m4, m5, m6, T, m7⟩ := id hM
  have hp := m7.1
  intro r
  induction r with
  | nil =>
    intro f j s hr hf hj hs
    obtain ⟨f, rfl⟩ : ∃ g, f = g + 1 := ⟨f - 1, by omega⟩
    refine ⟨pk_in d 16 (by omega), br_t (ln_hnil hp (by omega) hj hr) ?_⟩
    have e : s = ln_sm ln_v ((L d).filter (ln_ky k)) := by
      rw [← hs]
      show s = s + 0
      rw [Int32.add_zero]
    rw [e]
    exact ln_tidyM h0 hc sc lv cl pk pv oc a1 a2 a3 a4 a5 a6 a7 a8 a9 a10 a11 a12 a13 a14 a15 a16 a17 a18 a19 a20 a21 a22 a23 a24 a25 hM H
  | cons t r ih =>
    intro f j s hr hf hj hs
    obtain ⟨f, rfl⟩ : ∃ g, f = g + 1 := ⟨f - 1, by omega⟩
    obtain ⟨g1, g2, g3, g4, g5, g6, g7, g8, g9⟩ := ln_hcons hp (show d < 16 by omega) hr
    have hf' : r.length < f := by simp at hf; omega
    refine ⟨pk_in d 16 (by omega), br_f g1 ⟨g3, pk_eq t.2.1 k (fun z => ⟨g3, nm_r (e' := s + t.2.2) (by rw [g6]) (nm_r (ln_ad1 _ _) ?_)⟩) (fun z => nm_r (ln_ad1 _ _) ?_) (hx := g5)⟩⟩
    · refine ih f (j + 1) _ g9 hf' (by omega) ?_
      rw [← hs, List.filter_cons_of_pos (by simp [ln_ky, z]), Int32.add_assoc]
      rfl
    · refine ih f (j + 1) _ g9 hf' (by omega) ?_
      rw [← hs, List.filter_cons_of_neg (by simp [ln_ky, z])]
theorem ln_lookup {post : Int32 → St2 → Prop} {R : List ln_T} {P : Nat → ln_PE} {F : Nat → List ln_T} {S d k : Nat} {kp : Nat → Bool} {Bg : Nat → Prop} (h0 : ln_st0 R P F S kp) (u : St2) (hQ : ln_Q R P F S kp Bg u) (hd : d < S) (hk : k < 1000) (hfit : ∀ N, ln_upb P N d → ∀ j, j ≤ d → N j ≠ 0 → (F j).length ≤ 48) (hnB : ¬ Bg d)
    (H : ∀ u : St2, ln_Q R P F S kp Bg u → post (ln_sm ln_v ((F d).filter (ln_ky k))) u) : wpX_lookup post u (nI d) (nI k) := by
  obtain ⟨hc, sc, lv, cl, pk, pv, oc, a1, a2, a3, a4, a5, a6, a7, a8, a9, a10, a11, a12, a13, a14, a15, a16, a17, a18, a19, a20, a21, a22, a23, a24, a25⟩ := u
  have h16 := h0.1.1
  unfold wpX_lookup
  refine ln_isSet hc sc lv cl pk pv oc a1 a2 a3 a4 a5 a6 a7 a8 a9 a10 a11 a12 a13 a14 a15 a16 a17 a18 a19 a20 a21 a22 a23 a24 a25 hQ.1 (by omega) (by omega) (fun _ => br_f (by decide) ?_) (fun z => absurd z (by omega))
  refine ln_workOutG h0 hc sc lv cl pk pv oc a1 a2 a3 a4 a5 a6 a7 a8 a9 a10 a11 a12 a13 a14 a15 a16 a17 a18 a19 a20 a21 a22 a23 a24 a25 hQ hd hfit hnB (fun L cl pk pv a10 a11 a12 a13 a14 a16 a17 a18 a19 a20 a21 a22 a23 hM => br_f (by decide) (nm_r (ln_m48 d) ⟨49, ?_⟩))
  obtain ⟨m1, m2, m3, m4, m5, m6, T, m7⟩ := id hM
  have hlen := (m7.1 d (by omega)).2.1
  refine ln_look26 h0 hc sc lv cl pk pv oc a1 a2 a3 a4 a5 a6 a7 a8 a9 a10 a11 a12 a13 a14 a15 a16 a17 a18 a19 a20 a21 a22 a23 a24 a25 hd hk hM (fun a10 a14 hQ => ?_) (L d) 49 0 0 rfl (by omega) (by omega) (by rw [Int32.zero_add])
  rw [ln_sm_perm (m6.filter _)]
  exact H _ hQ
end
section
/-! sortPairs, keyOf, valueOf -/
def ln_e (t : Nat × Int32) : Int := (t.1 : Int) * 4294967296 + t.2.toInt
def ln_srt (O : List (Nat × Int32)) : Prop := ∀ (i j : Nat) (s t : Nat × Int32), i ≤ j → O[i]? = some s → O[j]? = some t → ln_e s ≤ ln_e t
def ln_hld (a24 a25 : Nat → Int32) (O : List (Nat × Int32)) : Prop := ∀ (i : Nat) (s : Nat × Int32), O[i]? = some s → a24 i = nI s.1 ∧ a25 i = s.2 ∧ s.1 < 16
theorem ln_e_eq {s t : Nat × Int32} (h : ln_e s = ln_e t) : s = t := by
  have h1 := s.2.toInt_lt
  have h2 := s.2.le_toInt
  have h3 := t.2.toInt_lt
  have h4 := t.2.le_toInt
  unfold ln_e at h
  have e1 : s.1 = t.1 := by omega
  have e2 : s.2.toInt = t.2.toInt := by omega
  exact Prod.ext e1 (Int32.toInt_inj.mp e2)
theorem ln_ins {O : List (Nat × Int32)} {p : Nat} {t : Nat × Int32} (hp : p ≤ O.length) (j : Nat) : (O.take p ++ t :: O.drop p)[j]? = if j < p then O[j]? else if j = p then some t else O[j - 1]? := by
  have hl : (O.take p).length = p := by rw [List.length_take]; omega
  by_cases h1 : j < p
  · rw [if_pos h1, List.getElem?_append_left (by omega), List.getElem?_take_of_lt h1]
  · rw [if_neg h1, List.getElem?_append_right (by omega), hl]
    by_cases h2 : j = p
    · rw [if_pos h2, h2, Nat.sub_self]
      rfl
    · rw [if_neg h2]
      obtain ⟨m, hm⟩ : ∃ m, j = p + m + 1 := ⟨j - p - 1, by omega⟩
      subst hm
      rw [show p + m + 1 - p = m + 1 by omega, List.getElem?_cons_succ, List.getElem?_drop, show p + m + 1 - 1 = p + m by omega]
theorem ln_ins_srt {O : List (Nat × Int32)} {p : Nat} {t : Nat × Int32} (hp : p ≤ O.length) (hO : ln_srt O) (hlo : ∀ s, p ≠ 0 → O[p - 1]? = some s → ln_e s ≤ ln_e t) (hhi : ∀ i s, p ≤ i → O[i]? = some s → ln_e t < ln_e s) : ln_srt (O.take p ++ t :: O.drop p) := by
  have lo : ∀ i s, i < p → O[i]? = some s → ln_e s ≤ ln_e t := by
    intro i s hi hs
    have hp1 : p - 1 < O.length := by omega
    have := hlo O[p - 1] (by omega) (List.getElem?_eq_getElem hp1)
    exact Int.le_trans (hO i (p - 1) s _ (by omega) hs (List.getElem?_eq_getElem hp1)) this
  intro i j s u hij hs hu
  rw [ln_ins hp] at hs hu
  by_cases hi : i < p
  · rw [if_pos hi] at hs
    by_cases hj : j < p
    · rw [if_pos hj] at hu
      exact hO i j s u hij hs hu
    · rw [if_neg hj] at hu
      by_cases hj2 : j = p
      · rw [if_pos hj2] at hu
        have := Option.some.inj hu
        subst this
        exact lo i s hi hs
      · rw [if_neg hj2] at hu
        exact hO i (j - 1) s u (by omega) hs hu
  · rw [if_neg hi] at hs
    rw [if_neg (show ¬ j < p by omega)] at hu
    by_cases hi2 : i = p
    · rw [if_pos hi2] at hs
      have := Option.some.inj hs
      subst this
      by_cases hj2 : j = p
      · rw [if_pos hj2] at hu
        have := Option.some.inj hu
        subst this
        exact Int.le_refl _
      · rw [if_neg hj2] at hu
        exact Int.le_of_lt (hhi (j - 1) u (by omega) hu)
    · rw [if_neg hi2] at hs
      rw [if_neg (show ¬ j = p by omega)] at hu
      exact hO (i - 1) (j - 1) s u (by omega) hs hu
section
variable (hc sc lv cl pk pv oc : Int32) (a1 a2 a3 a4 a5 a6 a7 a8 a9 a10 a11 a12 a13 a14 a15 a16 a17 a18 a19 a20 a21 a22 a23 a24 a25 : Nat → Int32)
theorem ln_isBefore {post : Int32 → Prop} {p k : Nat} {x y z v : Int32} {s : Nat × Int32} (hx : x = nI k) (hy : y = v) (hz : z = nI p) (hp : p < 48) (hk : k < 16) (hs : a24 p = nI s.1 ∧ a25 p = s.2 ∧ s.1 < 16)
    (H1 : ln_e (k, v) < ln_e s → post 1) (H0 : ln_e s ≤ ln_e (k, v) → post 0) : wpX_isBefore post (hc, sc, lv, cl, pk, pv, oc, a1, a2, a3, a4, a5, a6, a7, a8, a9, a10, a11, a12, a13, a14, a15, a16, a17, a18, a19, a20, a21, a22, a23, a24, a25) x y z := by
  subst hx hy hz
  obtain ⟨s1, s2, s3⟩ := hs
  have e : (nI p).toNatClampNeg = p := nI_clamp (by omega)
  have hi : vp_in (nI p) 48 := pk_in p 48 hp
  have h1 := y.toInt_lt
  have h2 := y.le_toInt
  have h3 := s.2.toInt_lt
  have h4 := s.2.le_toInt
  unfold wpX_isBefore
  refine ⟨hi, pk_eq k s.1 (fun z => ⟨hi, br_c (fun zl => H0 ?_) (fun zl => H1 ?_)⟩) (fun z => ⟨hi, pk_le s.1 k (fun zl => H0 ?_) (fun zl => H1 ?_) (hx := by rw [e]; exact s1)⟩) (hy := by rw [e]; exact s1)⟩
  · rw [e, s2, Int32.le_iff_toInt_le] at zl
    unfold ln_e
    simp only
    omega
  · rw [e, s2, Int32.le_iff_toInt_le] at zl
    unfold ln_e
    simp only
    omega
  · unfold ln_e
    simp only
    omega
  · unfold ln_e
    simp only
    omega
theorem ln_sort90 {post : St2 → Prop} {J : Int32 → Int32 → (Nat → Int32) → (Nat → Int32) → (Nat → Int32) → (Nat → Int32) → (Nat → Int32) → (Nat → Int32) → (Nat → Int32) → (Nat → Int32) → (Nat → Int32) → (Nat → Int32) → (Nat → Int32) → (Nat → Int32) → (Nat → Int32) → (Nat → Int32) → (Nat → Int32) → (Nat → Int32) → (Nat → Int32) → (Nat → Int32) → (Nat → Int32) → (Nat → Int32) → (Nat → Int32) → (Nat → Int32) → (Nat → Int32) → (Nat → Int32) → (Nat → Int32) → Prop}
    {O : List (Nat × Int32)} {d j p : Nat} {t : ln_T} (hoc : oc = nI O.length) (hj : vp_in (nI (48 * d + j)) 768) (h12 : a12 (nI (48 * d + j)).toNatClampNeg = nI t.2.1) (h13 : a13 (nI (48 * d + j)).toNatClampNeg = t.2.2) (ht : t.2.1 < 16) (hpl : p ≤ O.length) (hp : p < 48)
    (hO : ∀ (i : Nat) (s : Nat × Int32), O[i]? = some s → s.1 < 16 ∧ (i < p → a24 i = nI s.1 ∧ a25 i = s.2) ∧ (p ≤ i → a24 (i + 1) = nI s.1 ∧ a25 (i + 1) = s.2))
    (H : ∀ a24 a25 : Nat → Int32, ln_hld a24 a25 (O.take p ++ t.2 :: O.drop p) → J (nI (48 * d + (j + 1))) (nI (O.length + 1)) a1 a2 a3 a4 a5 a6 a7 a8 a9 a10 a11 a12 a13 a14 a15 a16 a17 a18 a19 a20 a21 a22 a23 a24 a25) : wX_sortPairs_90 post J (nI d) (nI (48 * d + j)) (nI p) hc sc lv cl pk pv oc a1 a2 a3 a4 a5 a6 a7 a8 a9 a10 a11 a12 a13 a14 a15 a16 a17 a18 a19 a20 a21 a22 a23 a24 a25 := by
  have e : (nI p).toNatClampNeg = p := nI_clamp (by omega)
  have hi : vp_in (nI p) 48 := pk_in p 48 hp
  unfold wX_sortPairs_90
  refine ⟨hj, hi, nm_r (e' := upd a24 p (nI t.2.1)) (by rw [e, h12, ln_nrN (by omega)]) ⟨hj, hi, nm_r (e' := upd a25 p t.2.2) (by rw [e, h13]) (nm_r (e' := nI (O.length + 1)) (by rw [hoc, nI_1]) (nm_r (ln_ad1 _ _) (H _ _ ?_)))⟩⟩
  intro i s hs
  rw [ln_ins hpl] at hs
  by_cases h1 : i < p
  · rw [if_pos h1] at hs
    obtain ⟨g1, g2, g3⟩ := hO i s hs
    rw [pk_un (by omega), pk_un (by omega)]
    exact ⟨(g2 h1).1, (g2 h1).2, g1⟩
  · rw [if_neg h1] at hs
    by_cases h2 : i = p
    · rw [if_pos h2] at hs
      have := Option.some.inj hs
      subst this
      rw [h2, pk_us, pk_us]
      exact ⟨rfl, rfl, ht⟩
    · rw [if_neg h2] at hs
      obtain ⟨g1, g2, g3⟩ := hO (i - 1) s hs
      have g := g3 (by omega)
      rw [show i - 1 + 1 = i by omega] at g
      rw [pk_un h2, pk_un h2]
      exact ⟨g.1, g.2, g1⟩
theorem ln_sort30 {post : St2 → Prop} {J : Int32 → Int32 → (Nat → Int32) → (Nat → Int32) → (Nat → Int32) → (Nat → Int32) → (Nat → Int32) → (Nat → Int32) → (Nat → Int32) → (Nat → Int32) → (Nat → Int32) → (Nat → Int32) → (Nat → Int32) → (Nat → Int32) → (Nat → Int32) → (Nat → Int32) → (Nat → Int32) → (Nat → Int32) → (Nat → Int32) → (Nat → Int32) → (Nat → Int32) → (Nat → Int32) → (Nat → Int32) → (Nat → Int32) → (Nat → Int32) → (Nat → Int32) → (Nat → Int32) → Prop}
    {O : List (Nat × Int32)} {d j : Nat} {t : ln_T} (hoc : oc = nI O.length) (hj : vp_in (nI (48 * d + j)) 768) (h12 : a12 (nI (48 * d + j)).toNatClampNeg = nI t.2.1) (h13 : a13 (nI (48 * d + j)).toNatClampNeg = t.2.2) (ht : t.2.1 < 16) (hlen : O.length < 48) (hsrt : ln_srt O)
    (H : ∀ (O' : List (Nat × Int32)) (a24 a25 : Nat → Int32), ln_hld a24 a25 O' → ln_srt O' → O'.Perm (t.2 :: O) → J (nI (48 * d + (j + 1))) (nI (O.length + 1)) a1 a2 a3 a4 a5 a6 a7 a8 a9 a10 a11 a12 a13 a14 a15 a16 a17 a18 a19 a20 a21 a22 a23 a24 a25) :
    ∀ (p f : Nat) (a24 a25 : Nat → Int32), p ≤ O.length → p < f →
    (∀ (i : Nat) (s : Nat × Int32), O[i]? = some s → s.1 < 16 ∧ (i < p → a24 i = nI s.1 ∧ a25 i = s.2) ∧ (p ≤ i → a24 (i + 1) = nI s.1 ∧ a25 (i + 1) = s.2)) → (∀ i s, p ≤ i → O[i]? = some s → ln_e t.2 < ln_e s) →
    wX_sortPairs_30 post J (nI d) (nI (48 * d + j)) hc sc lv cl pk pv oc f (nI p) a1 a2 a3 a4 a5 a6 a7 a8 a9 a10 a11 a12 a13 a14 a15 a16 a17 a18 a19 a20 a21 a22 a23 a24 a25 := by
  have pm : ∀ p, (O.take p ++ t.2 :: O.drop p).Perm (t.2 :: O) := by
    intro p
    have h := List.perm_middle (a := t.2) (l₁ := O.take p) (l₂ := O.drop p)
    rw [List.take_append_drop] at h
    exact h
  intro p
  induction p with
  | zero =>
    intro f a24 a25 hp hf hO hhi
    obtain ⟨f, rfl⟩ : ∃ g, f = g + 1 := ⟨f - 1, by omega⟩
    refine br_t (by decide) ?_
    refine ln_sort90 hc sc lv cl pk pv oc a1 a2 a3 a4 a5 a6 a7 a8 a9 a10 a11 a12 a13 a14 a15 a16 a17 a18 a19 a20 a21 a22 a23 a24 a25 hoc hj h12 h13 ht hp (by decide) hO (fun a24 a25 hh => H _ a24 a25 hh (ln_ins_srt hp hsrt (fun s h => absurd rfl h) hhi) (pm 0))
  | succ p ih =>
    intro f a24 a25 hp hf hO hhi
    obtain ⟨f, rfl⟩ : ∃ g, f = g + 1 := ⟨f - 1, by omega⟩
    have e1 : nI (p + 1) - 1 = nI p := nI_pred p
    have ep : (nI p).toNatClampNeg = p := nI_clamp (by omega)
    have ep1 : (nI (p + 1)).toNatClampNeg = p + 1 := nI_clamp (by omega)
    have hget : O[p]? = some O[p] := List.getElem?_eq_getElem (by omega)
    obtain ⟨g1, g2, g3⟩ := hO p _ hget
    obtain ⟨g4, g5⟩ := g2 (by omega)
    refine br_f (nI_nle (by omega) (by omega)) ⟨hj, hj, ?_⟩
    refine ln_isBefore hc sc lv cl pk pv oc a1 a2 a3 a4 a5 a6 a7 a8 a9 a10 a11 a12 a13 a14 a15 a16 a17 a18 a19 a20 a21 a22 a23 a24 a25 (s := O[p]) h12 h13 e1 (by omega) ht ⟨g4, g5, g1⟩ (fun z => br_f (by decide) ⟨?_, pk_in (p + 1) 48 (by omega), nm_r (e' := upd a24 (p + 1) (nI O[p].1)) ?_ ⟨?_, pk_in (p + 1) 48 (by omega), nm_r (e' := upd a25 (p + 1) O[p].2) ?_ (nm_r (pk_m1 p) ?_)⟩⟩) (fun z => br_t rfl ?_)
    · rw [e1]; exact pk_in p 48 (by omega)
    · rw [ep1, e1, ep, g4, ln_nrN (by omega)]
    · rw [e1]; exact pk_in p 48 (by omega)
    · rw [ep1, e1, ep, g5]
    · refine ih f _ _ (by omega) (by omega) (fun i s hs => ?_) (fun i s hi hs => ?_)
      · obtain ⟨q1, q2, q3⟩ := hO i s hs
        refine ⟨q1, fun hi => ?_, fun hi => ?_⟩
        · rw [pk_un (by omega), pk_un (by omega)]
          exact q2 (by omega)
        · by_cases hip : i = p
          · subst hip
            rw [hget] at hs
            have := Option.some.inj hs
            subst this
            rw [pk_us, pk_us]
            exact ⟨rfl, rfl⟩
          · rw [pk_un (by omega), pk_un (by omega)]
            exact q3 (by omega)
      · by_cases hip : i = p
        · subst hip
          rw [hget] at hs
          have := Option.some.inj hs
          subst this
          exact z
        · exact hhi i s (by omega) hs
    · refine ln_sort90 hc sc lv cl pk pv oc a1 a2 a3 a4 a5 a6 a7 a8 a9 a10 a11 a12 a13 a14 a15 a16 a17 a18 a19 a20 a21 a22 a23 a24 a25 hoc hj h12 h13 ht hp (by omega) hO (fun a24 a25 hh => H _ a24 a25 hh (ln_ins_srt hp hsrt (fun s _ h => ?_) hhi) (pm (p + 1)))
      rw [show p + 1 - 1 = p by omega, hget] at h
      have := Option.some.inj h
      subst this
      exact z
theorem ln_sort10 {post : St2 → Prop} {M : Nat → List ln_T} {d : Nat} (hd : d < 16) (hp : ln_pic a10 a11 a12 a13 M)
    (H : ∀ (O : List (Nat × Int32)) (oc : Int32) (a24 a25 : Nat → Int32), oc = nI O.length → ln_hld a24 a25 O → ln_srt O → O.Perm ((M d).map (fun t => t.2)) → post (hc, sc, lv, cl, pk, pv, oc, a1, a2, a3, a4, a5, a6, a7, a8, a9, a10, a11, a12, a13, a14, a15, a16, a17, a18, a19, a20, a21, a22, a23, a24, a25)) :
    ∀ (r : List ln_T) (f j : Nat) (O : List (Nat × Int32)) (a24 a25 : Nat → Int32), (M d).drop j = r → r.length < f → j ≤ 48 → O.length = j → ln_hld a24 a25 O → ln_srt O → (O ++ r.map (fun t => t.2)).Perm ((M d).map (fun t => t.2)) →
    wX_sortPairs_10 post (nI d) hc sc lv cl pk pv f (nI (48 * d + j)) (nI O.length) a1 a2 a3 a4 a5 a6 a7 a8 a9 a10 a11 a12 a13 a14 a15 a16 a17 a18 a19 a20 a21 a22 a23 a24 a25 := by
  intro r
  induction r with
  | nil =>
    intro f j O a24 a25 hr hf hj hO hh hs hpm
    obtain ⟨f, rfl⟩ : ∃ g, f = g + 1 := ⟨f - 1, by omega⟩
    refine ⟨pk_in d 16 hd, br_t (ln_hnil hp hd hj hr) (H O _ a24 a25 rfl hh hs ?_)⟩
    rw [List.map_nil, List.append_nil] at hpm
    exact hpm
  | cons t r ih =>
    intro f j O a24 a25 hr hf hj hO hh hs hpm
    obtain ⟨f, rfl⟩ : ∃ g, f = g + 1 := ⟨f - 1, by omega⟩
    obtain ⟨g1, g2, g3, g4, g5, g6, g7, g8, g9⟩ := ln_hcons hp hd hr
    have hf' : r.length < f := by simp at hf; omega
    refine ⟨pk_in d 16 hd, br_f g1 ⟨O.length + 1, ?_⟩⟩
    refine ln_sort30 hc sc lv cl pk pv (nI O.length) a1 a2 a3 a4 a5 a6 a7 a8 a9 a10 a11 a12 a13 a14 a15 a16 a17 a18 a19 a20 a21 a22 a23 rfl g3 g5 g6 g8 (by omega) hs (fun O' a24 a25 hh hs hpm' => ?_) O.length (O.length + 1) a24 a25 (Nat.le_refl _) (by omega) (fun i s h => ?_) (fun i s hi h => ?_)
    · have hl : O'.length = O.length + 1 := by rw [hpm'.length_eq]; rfl
      rw [← hl]
      refine ih f (j + 1) O' a24 a25 g9 hf' (by omega) (by omega) hh hs ?_
      refine List.Perm.trans ?_ hpm
      rw [List.map_cons]
      refine List.Perm.trans (hpm'.append_right _) ?_
      exact List.perm_middle.symm
    · have hi : i < O.length := (List.getElem?_eq_some_iff.mp h).1
      obtain ⟨q1, q2, q3⟩ := hh i s h
      exact ⟨q3, fun _ => ⟨q1, q2⟩, fun z => absurd z (by omega)⟩
    · have hi' : i < O.length := (List.getElem?_eq_some_iff.mp h).1
      exact absurd hi (by omega)
theorem ln_sortPairs {post : St2 → Prop} {M : Nat → List ln_T} {d : Nat} (hd : d < 16) (hp : ln_pic a10 a11 a12 a13 M)
    (H : ∀ (O : List (Nat × Int32)) (oc : Int32) (a24 a25 : Nat → Int32), oc = nI O.length → ln_hld a24 a25 O → ln_srt O → O.Perm ((M d).map (fun t => t.2)) → post (hc, sc, lv, cl, pk, pv, oc, a1, a2, a3, a4, a5, a6, a7, a8, a9, a10, a11, a12, a13, a14, a15, a16, a17, a18, a19, a20, a21, a22, a23, a24, a25)) : wpX_sortPairs post (hc, sc, lv, cl, pk, pv, oc, a1, a2, a3, a4, a5, a6, a7, a8, a9, a10, a11, a12, a13, a14, a15, a16, a17, a18, a19, a20, a21, a22, a23, a24, a25) (nI d) := by
  have hlen := (hp d hd).2.1
  unfold wpX_sortPairs
  refine nm_r (ln_m48 d) ⟨49, ?_⟩
  exact ln_sort10 hc sc lv cl pk pv a1 a2 a3 a4 a5 a6 a7 a8 a9 a10 a11 a12 a13 a14 a15 a16 a17 a18 a19 a20 a21 a22 a23 hd hp H (M d) 49 0 [] a24 a25 rfl (by omega) (by omega) rfl (fun i s h => by simp at h) (fun i j s t _ h => by simp at h) (by rw [List.nil_append])
end
theorem ln_keyOf {post : Int32 → St2 → Prop} {R : List ln_T} {P : Nat → ln_PE} {F : Nat → List ln_T} {S d k : Nat} {kp : Nat → Bool} {Bg : Nat → Prop} (h0 : ln_st0 R P F S kp) (u : St2) (hQ : ln_Q R P F S kp Bg u) (hd : d < S) (hk : k < 1000) (hfit : ∀ N, ln_upb P N d → ∀ j, j ≤ d → N j ≠ 0 → (F j).length ≤ 48) (hfd : (F d).length ≤ 48) (hnB : ¬ Bg d)
    (H1 : ∀ (O : List (Nat × Int32)) (s : Nat × Int32) (u : St2), ln_srt O → O.Perm ((F d).map (fun t => t.2)) → O[k]? = some s → ln_Q R P F S kp Bg u → post (nI s.1) u)
    (H0 : (F d).length ≤ k → ∀ u : St2, ln_Q R P F S kp Bg u → post (-1) u) : wpX_keyOf post u (nI d) (nI k) := by
  obtain ⟨hc, sc, lv, cl, pk, pv, oc, a1, a2, a3, a4, a5, a6, a7, a8, a9, a10, a11, a12, a13, a14, a15, a16, a17, a18, a19, a20, a21, a22, a23, a24, a25⟩ := u
  have h16 := h0.1.1
  unfold wpX_keyOf
  refine ln_isSet hc sc lv cl pk pv oc a1 a2 a3 a4 a5 a6 a7 a8 a9 a10 a11 a12 a13 a14 a15 a16 a17 a18 a19 a20 a21 a22 a23 a24 a25 hQ.1 (by omega) (by omega) (fun _ => br_f (by decide) ?_) (fun z => absurd z (by omega))
  refine ln_workOutG h0 hc sc lv cl pk pv oc a1 a2 a3 a4 a5 a6 a7 a8 a9 a10 a11 a12 a13 a14 a15 a16 a17 a18 a19 a20 a21 a22 a23 a24 a25 hQ hd hfit hnB (fun L cl pk pv a10 a11 a12 a13 a14 a16 a17 a18 a19 a20 a21 a22 a23 hM => br_f (by decide) ?_)
  obtain ⟨m1, m2, m3, m4, m5, m6, T, m7⟩ := id hM
  refine ln_sortPairs hc sc lv cl pk pv oc a1 a2 a3 a4 a5 a6 a7 a8 a9 a10 a11 a12 a13 a14 a15 a16 a17 a18 a19 a20 a21 a22 a23 a24 a25 (by omega) m7.1 (fun O oc a24 a25 hoc hh hs hpm => ?_)
  have hpm' : O.Perm ((F d).map (fun t => t.2)) := hpm.trans (m6.map _)
  have hlen : O.length = (F d).length := by rw [hpm'.length_eq, List.length_map]
  refine ln_tidyM (L := L) (d := d) h0 hc sc lv cl pk pv oc a1 a2 a3 a4 a5 a6 a7 a8 a9 a10 a11 a12 a13 a14 a15 a16 a17 a18 a19 a20 a21 a22 a23 a24 a25 ⟨m1, m2, m3, m4, m5, m6, T, m7⟩ (fun a10 a14 hQ => ?_)
  refine br_f (nI_pos (by omega)) (pk_lt k O.length (fun z => ⟨pk_in k 48 (by omega), ?_⟩) (fun z => H0 (by omega) _ hQ) (hy := hoc))
  rw [ln_cl hk, (hh k O[k] (List.getElem?_eq_getElem z)).1]
  exact H1 O O[k] _ hs hpm' (List.getElem?_eq_getElem z) hQ
theorem ln_keyOfB {post : Int32 → St2 → Prop} {R : List ln_T} {P : Nat → ln_PE} {F : Nat → List ln_T} {S d b : Nat} {k : Int32} {kp : Nat → Bool} {Bg : Nat → Prop} (h0 : ln_st0 R P F S kp) (u : St2) (hQ : ln_Q R P F S kp Bg u) (hd : d < S) (hfit : ∀ j, j ≤ d → j ≠ b → (F j).length ≤ 48) (hb : 48 < (F b).length) (hbd : d = b ∨ (b < d ∧ ln_wide (P d).1 = true ∧ ln_src P d b ∧ (P d).1 ≠ 0)) (hkb : kp b = false) (hkd : kp d = false) (hBb : Bg b) (hBd : Bg d)
    (H : ∀ u : St2, ln_Q R P F S kp Bg u → post (-3) u) : wpX_keyOf post u (nI d) k := by
  obtain ⟨hc, sc, lv, cl, pk, pv, oc, a1, a2, a3, a4, a5, a6, a7, a8, a9, a10, a11, a12, a13, a14, a15, a16, a17, a18, a19, a20, a21, a22, a23, a24, a25⟩ := u
  have h16 := h0.1.1
  unfold wpX_keyOf
  refine ln_isSet hc sc lv cl pk pv oc a1 a2 a3 a4 a5 a6 a7 a8 a9 a10 a11 a12 a13 a14 a15 a16 a17 a18 a19 a20 a21 a22 a23 a24 a25 hQ.1 (by omega) (by omega) (fun _ => br_f (by decide) ?_) (fun z => absurd z (by omega))
  exact ln_workOutB h0 hc sc lv cl pk pv oc a1 a2 a3 a4 a5 a6 a7 a8 a9 a10 a11 a12 a13 a14 a15 a16 a17 a18 a19 a20 a21 a22 a23 a24 a25 hQ hd hfit hb hbd hkb hkd hBb hBd (fun cl pk pv a10 a11 a12 a13 a14 a16 a17 a18 a19 a20 a21 a22 a23 hQ => br_t rfl (H _ hQ))
theorem ln_valueOf {post : Int32 → St2 → Prop} {R : List ln_T} {P : Nat → ln_PE} {F : Nat → List ln_T} {S d k : Nat} {kp : Nat → Bool} {Bg : Nat → Prop} (h0 : ln_st0 R P F S kp) (u : St2) (hQ : ln_Q R P F S kp Bg u) (hd : d < S) (hk : k < 1000) (hfit : ∀ N, ln_upb P N d → ∀ j, j ≤ d → N j ≠ 0 → (F j).length ≤ 48) (hfd : (F d).length ≤ 48) (hnB : ¬ Bg d) (hkl : k < (F d).length)
    (H1 : ∀ (O : List (Nat × Int32)) (s : Nat × Int32) (u : St2), ln_srt O → O.Perm ((F d).map (fun t => t.2)) → O[k]? = some s → ln_Q R P F S kp Bg u → post s.2 u) : wpX_valueOf post u (nI d) (nI k) := by
  obtain ⟨hc, sc, lv, cl, pk, pv, oc, a1, a2, a3, a4, a5, a6, a7, a8, a9, a10, a11, a12, a13, a14, a15, a16, a17, a18, a19, a20, a21, a22, a23, a24, a25⟩ := u
  have h16 := h0.1.1
  unfold wpX_valueOf
  refine ln_isSet hc sc lv cl pk pv oc a1 a2 a3 a4 a5 a6 a7 a8 a9 a10 a11 a12 a13 a14 a15 a16 a17 a18 a19 a20 a21 a22 a23 a24 a25 hQ.1 (by omega) (by omega) (fun _ => br_f (by decide) ?_) (fun z => absurd z (by omega))
  refine ln_workOutG h0 hc sc lv cl pk pv oc a1 a2 a3 a4 a5 a6 a7 a8 a9 a10 a11 a12 a13 a14 a15 a16 a17 a18 a19 a20 a21 a22 a23 a24 a25 hQ hd hfit hnB (fun L cl pk pv a10 a11 a12 a13 a14 a16 a17 a18 a19 a20 a21 a22 a23 hM => br_f (by decide) ?_)
  obtain ⟨m1, m2, m3, m4, m5, m6, T, m7⟩ := id hM
  refine ln_sortPairs hc sc lv cl pk pv oc a1 a2 a3 a4 a5 a6 a7 a8 a9 a10 a11 a12 a13 a14 a15 a16 a17 a18 a19 a20 a21 a22 a23 a24 a25 (by omega) m7.1 (fun O oc a24 a25 hoc hh hs hpm => ?_)
  have hpm' : O.Perm ((F d).map (fun t => t.2)) := hpm.trans (m6.map _)
  have hlen : O.length = (F d).length := by rw [hpm'.length_eq, List.length_map]
  refine ln_tidyM (L := L) (d := d) h0 hc sc lv cl pk pv oc a1 a2 a3 a4 a5 a6 a7 a8 a9 a10 a11 a12 a13 a14 a15 a16 a17 a18 a19 a20 a21 a22 a23 a24 a25 ⟨m1, m2, m3, m4, m5, m6, T, m7⟩ (fun a10 a14 hQ => ?_)
  refine br_f (nI_pos (by omega)) (pk_lt k O.length (fun z => ⟨pk_in k 48 (by omega), ?_⟩) (fun z => absurd z (by omega)) (hy := hoc))
  rw [ln_cl hk, (hh k O[k] (List.getElem?_eq_getElem z)).2.1]
  exact H1 O O[k] _ hs hpm' (List.getElem?_eq_getElem z) hQ
end
section
/-! lose; keep, drop, derive over the quiet state -/
def ln_cell (a11 a12 a13 : Nat → Int32) (p : Nat) (t : ln_T) : Prop := a11 p = nI t.1 ∧ a12 p = nI t.2.1 ∧ a13 p = t.2.2 ∧ t.1 < 4 ∧ t.2.1 < 16
theorem ln_cell_o {a11 a12 a13 : Nat → Int32} {p c : Nat} {t : ln_T} {x y z : Int32} (h : ln_cell a11 a12 a13 p t) (hp : p ≠ c) : ln_cell (upd a11 c x) (upd a12 c y) (upd a13 c z) p t := by
  unfold ln_cell
  rw [pk_un hp, pk_un hp, pk_un hp]
  exact h
section
variable (hc sc lv cl pk pv oc : Int32) (a1 a2 a3 a4 a5 a6 a7 a8 a9 a10 a11 a12 a13 a14 a15 a16 a17 a18 a19 a20 a21 a22 a23 a24 a25 : Nat → Int32)
theorem ln_movePair {post : St2 → Prop} {p c : Nat} {t : ln_T} {x y : Int32} (hx : x = nI p) (hy : y = nI c) (hp : p < 768) (hc' : c < 768) (hcell : ln_cell a11 a12 a13 p t)
    (H : post (hc, sc, lv, cl, pk, pv, oc, a1, a2, a3, a4, a5, a6, a7, a8, a9, a10, upd a11 c (nI t.1), upd a12 c (nI t.2.1), upd a13 c t.2.2, a14, a15, a16, a17, a18, a19, a20, a21, a22, a23, a24, a25)) : wpX_movePair post (hc, sc, lv, cl, pk, pv, oc, a1, a2, a3, a4, a5, a6, a7, a8, a9, a10, a11, a12, a13, a14, a15, a16, a17, a18, a19, a20, a21, a22, a23, a24, a25) x y := by
  subst hx hy
  obtain ⟨h1, h2, h3, h4, h5⟩ := hcell
  have e : (nI p).toNatClampNeg = p := nI_clamp (by omega)
  have ec : (nI c).toNatClampNeg = c := nI_clamp (by omega)
  have i1 : vp_in (nI p) 768 := pk_in p 768 hp
  have i2 : vp_in (nI c) 768 := pk_in c 768 hc'
  unfold wpX_movePair
  exact ⟨i1, i2, nm_r (by rw [e, ec, h1, ln_nrN (by omega)]) ⟨i1, i2, nm_r (by rw [e, ec, h2, ln_nrN (by omega)]) ⟨i1, i2, nm_r (by rw [e, ec, h3]) H⟩⟩⟩
theorem ln_lp34 {post : St2 → Prop} {L : Nat → List ln_T} {d q : Nat} (hd : d < 16) (hq : q < 4) (h10 : ∀ x, x < 16 → a10 x = nI (L x).length ∧ (L x).length ≤ 48)
    (H : ∀ a10 a11 a12 a13 : Nat → Int32, ln_pic a10 a11 a12 a13 (ln_up L d ((L d).filter (fun t => !(t.1 == q)))) → post (hc, sc, lv, cl, pk, pv, oc, a1, a2, a3, a4, a5, a6, a7, a8, a9, a10, a11, a12, a13, a14, a15, a16, a17, a18, a19, a20, a21, a22, a23, a24, a25)) :
    ∀ (r : List ln_T) (f i : Nat) (K : List ln_T) (a11 a12 a13 : Nat → Int32), (L d).drop i = r → r.length < f → K.length ≤ i → i ≤ (L d).length → K ++ r.filter (fun t => !(t.1 == q)) = (L d).filter (fun t => !(t.1 == q)) →
    (∀ x, x < 16 → x ≠ d → ∀ (j : Nat) (t : ln_T), (L x)[j]? = some t → ln_cell a11 a12 a13 (48 * x + j) t) → (∀ (j : Nat) (t : ln_T), K[j]? = some t → ln_cell a11 a12 a13 (48 * d + j) t) → (∀ (j : Nat) (t : ln_T), i ≤ j → (L d)[j]? = some t → ln_cell a11 a12 a13 (48 * d + j) t) →
    wX_losePart_34 post (nI d) (nI q) f (nI K.length) (nI i) hc sc lv cl pk pv oc a1 a2 a3 a4 a5 a6 a7 a8 a9 a10 a11 a12 a13 a14 a15 a16 a17 a18 a19 a20 a21 a22 a23 a24 a25 := by
  have e : (nI d).toNatClampNeg = d := nI_clamp (by omega)
  have hd16 : vp_in (nI d) 16 := pk_in d 16 hd
  obtain ⟨l1, l2⟩ := h10 d hd
  intro r
  induction r with
  | nil =>
    intro f i K a11 a12 a13 hr hf hK hi hKr C1 C2 C3
    obtain ⟨f, rfl⟩ : ∃ g, f = g + 1 := ⟨f - 1, by omega⟩
    have := ln_dnil hr
    rw [List.filter_nil, List.append_nil] at hKr
    refine ⟨hd16, pk_le (L d).length i (fun _ => ⟨hd16, nm_r (e' := upd a10 d (nI K.length)) (by rw [e, ln_byN _ (by omega)]) (H _ a11 a12 a13 ?_)⟩) (fun z => absurd z (by omega)) (hx := by rw [e]; exact l1)⟩
    rw [← hKr]
    intro x hx
    by_cases hxd : x = d
    · subst hxd
      rw [ln_us, pk_us]
      exact ⟨rfl, by omega, fun j t h => C2 j t h⟩
    · rw [ln_un hxd, pk_un hxd]
      exact ⟨(h10 x hx).1, (h10 x hx).2, fun j t h => C1 x hx hxd j t h⟩
  | cons t r ih =>
    intro f i K a11 a12 a13 hr hf hK hi hKr C1 C2 C3
    obtain ⟨f, rfl⟩ : ∃ g, f = g + 1 := ⟨f - 1, by omega⟩
    obtain ⟨d1, d2, d3⟩ := ln_dcons hr
    have hf' : r.length < f := by simp at hf; omega
    have hc0 := C3 i t (Nat.le_refl _) d1
    have ei : (nI (48 * d + i)).toNatClampNeg = 48 * d + i := nI_clamp (by omega)
    refine ⟨hd16, pk_le (L d).length i (fun z => absurd z (by omega)) (fun _ => nm_r (e' := nI (48 * d + i)) (by rw [ln_m48, nI_add]) ⟨pk_in (48 * d + i) 768 (by omega), ?_⟩) (hx := by rw [e]; exact l1)⟩
    refine pk_eq t.1 q (fun z => nm_r (nI_1 i) ?_) (fun z => ?_) (hx := by rw [ei]; exact hc0.1) (ha := by have := hc0.2.2.2.1; omega)
    · refine ih f (i + 1) K a11 a12 a13 d2 hf' (by omega) (by omega) ?_ C1 C2 (fun j s hj h => C3 j s (by omega) h)
      rw [← hKr, List.filter_cons_of_neg (by simp [z])]
    · refine ln_movePair hc sc lv cl pk pv oc a1 a2 a3 a4 a5 a6 a7 a8 a9 a10 a11 a12 a13 a14 a15 a16 a17 a18 a19 a20 a21 a22 a23 a24 a25 rfl (c := 48 * d + K.length) (by rw [ln_m48, nI_add]) (by omega) (by omega) hc0 (nm_r (nI_1 _) (nm_r (nI_1 i) ?_))
      have hl : K.length + 1 = (K ++ [t]).length := by rw [List.length_append]; rfl
      rw [hl]
      refine ih f (i + 1) (K ++ [t]) _ _ _ d2 hf' (by rw [← hl]; omega) (by omega) ?_ (fun x hx hxd j s h => ?_) (fun j s h => ?_) (fun j s hj h => ?_)
      · rw [← hKr, List.filter_cons_of_pos (by simp [z]), List.append_assoc]
        rfl
      · have hj : j < (L x).length := (List.getElem?_eq_some_iff.mp h).1
        have := (h10 x hx).2
        exact ln_cell_o (C1 x hx hxd j s h) (by omega)
      · by_cases hj : j < K.length
        · rw [List.getElem?_append_left hj] at h
          exact ln_cell_o (C2 j s h) (by omega)
        · have hj2 : j < (K ++ [t]).length := (List.getElem?_eq_some_iff.mp h).1
          have hj3 : j = K.length := by omega
          subst hj3
          rw [List.getElem?_append_right (Nat.le_refl _), Nat.sub_self] at h
          have hh : t = s := by simpa using h
          subst hh
          unfold ln_cell
          rw [pk_us, pk_us, pk_us]
          exact ⟨rfl, rfl, rfl, hc0.2.2.2⟩
      · exact ln_cell_o (C3 j s (by omega) h) (by omega)
theorem ln_losePart {post : St2 → Prop} {L : Nat → List ln_T} {T : Nat → Nat} {d q : Nat} {x : Int32} (hx : x = nI q) (hd : d < 16) (hq : q < 4) (hp : ln_pic a10 a11 a12 a13 L) (hT : ln_msk a14 T)
    (H1 : (T d).testBit q = true → ∀ a10 a11 a12 a13 a14 : Nat → Int32, ln_pic a10 a11 a12 a13 (ln_up L d ((L d).filter (fun t => !(t.1 == q)))) → ln_msk a14 (ln_up T d (T d &&& (15 - 2 ^ q))) → post (hc, sc, lv, cl, pk, pv, oc, a1, a2, a3, a4, a5, a6, a7, a8, a9, a10, a11, a12, a13, a14, a15, a16, a17, a18, a19, a20, a21, a22, a23, a24, a25))
    (H0 : (T d).testBit q = false → post (hc, sc, lv, cl, pk, pv, oc, a1, a2, a3, a4, a5, a6, a7, a8, a9, a10, a11, a12, a13, a14, a15, a16, a17, a18, a19, a20, a21, a22, a23, a24, a25)) : wpX_losePart post (hc, sc, lv, cl, pk, pv, oc, a1, a2, a3, a4, a5, a6, a7, a8, a9, a10, a11, a12, a13, a14, a15, a16, a17, a18, a19, a20, a21, a22, a23, a24, a25) (nI d) x := by
  subst hx
  have e : (nI d).toNatClampNeg = d := nI_clamp (by omega)
  have hd16 : vp_in (nI d) 16 := pk_in d 16 hd
  obtain ⟨t1, t2⟩ := hT d hd
  have hlen := (hp d hd).2.1
  unfold wpX_losePart
  refine ⟨hd16, br_c (fun z => H0 ?_) (fun z => ⟨hd16, hd16, nm_r (e' := upd a14 d (nI (T d &&& (15 - 2 ^ q)))) (by rw [e, t1, ln_loseN _ t2 _ hq]) ⟨49, ?_⟩⟩)⟩
  · rw [e, t1] at z
    exact (ln_bit _ t2 _ hq).mp z
  · rw [e, t1] at z
    have hb : (T d).testBit q = true := by
      cases h : (T d).testBit q with
      | true => rfl
      | false => exact absurd ((ln_bit _ t2 _ hq).mpr h) z
    refine ln_lp34 hc sc lv cl pk pv oc a1 a2 a3 a4 a5 a6 a7 a8 a9 a10 (upd a14 d (nI (T d &&& (15 - 2 ^ q)))) a15 a16 a17 a18 a19 a20 a21 a22 a23 a24 a25 hd hq (fun x hx => ⟨(hp x hx).1, (hp x hx).2.1⟩) (fun a10 a11 a12 a13 hp => H1 hb a10 a11 a12 a13 _ hp (ln_mskU hT (ln_and16 _ t2 _))) (L d) 49 0 [] a11 a12 a13 rfl (by omega) (by simp) (by omega) (by simp) (fun x hx _ j t h => (hp x hx).2.2 j t h) (fun j t h => by simp at h) (fun j t _ h => (hp d hd).2.2 j t h)
theorem ln_lose13 {post : Int32 → St2 → Prop} {F : Nat → List ln_T} {S : Nat} {kp : Nat → Bool} {x : Int32} (hs : sc = nI S) (hS : S ≤ 16) (hk0 : kp 0 = false)
    (H : ∀ (L : Nat → List ln_T) (T : Nat → Nat) (a10 a11 a12 a13 a14 : Nat → Int32), ln_dat F S L T a10 a11 a12 a13 a14 → ln_qt kp L T → post 1 (hc, sc, lv, cl, pk, pv, oc, a1, a2, a3, a4, a5, a6, a7, a8, a9, a10, a11, a12, a13, a14, a15, a16, a17, a18, a19, a20, a21, a22, a23, a24, a25)) :
    ∀ (c f i : Nat) (L : Nat → List ln_T) (T : Nat → Nat) (a10 a11 a12 a13 a14 : Nat → Int32), i + c = S → c < f → ln_dat F S L T a10 a11 a12 a13 a14 → ln_qt kp L T → wX_lose_13 post x f (nI i) hc sc lv cl pk pv oc a1 a2 a3 a4 a5 a6 a7 a8 a9 a10 a11 a12 a13 a14 a15 a16 a17 a18 a19 a20 a21 a22 a23 a24 a25 := by
  intro c
  induction c with
  | zero =>
    intro f i L T a10 a11 a12 a13 a14 hi hf hd hqt
    obtain ⟨f, rfl⟩ : ∃ g, f = g + 1 := ⟨f - 1, by omega⟩
    exact pk_le S i (fun _ => H L T a10 a11 a12 a13 a14 hd hqt) (fun z => absurd z (by omega)) (hx := hs)
  | succ c ih =>
    intro f i L T a10 a11 a12 a13 a14 hi hf hd hqt
    obtain ⟨f, rfl⟩ : ∃ g, f = g + 1 := ⟨f - 1, by omega⟩
    obtain ⟨q, q1, q2⟩ := pk_andE (x - nI i) (m := 3) 2 (by decide)
    obtain ⟨d1, d2, d3, d4, d5⟩ := id hd
    refine pk_le S i (fun z => absurd z (by omega)) (fun _ => nm_r q2 ?_) (hx := hs)
    refine ln_losePart hc sc lv cl pk pv oc a1 a2 a3 a4 a5 a6 a7 a8 a9 a10 a11 a12 a13 a14 a15 a16 a17 a18 a19 a20 a21 a22 a23 a24 a25 rfl (by omega) q1 d1 d2 (fun hb a10 a11 a12 a13 a14 hp hT => nm_r (nI_1 i) ?_) (fun hb => nm_r (nI_1 i) (ih f (i + 1) L T a10 a11 a12 a13 a14 (by omega) (by omega) hd hqt))
    have hki : kp i = true := by
      cases h : kp i with
      | true => rfl
      | false =>
        rw [(hqt i (by omega) h).1, Nat.zero_testBit] at hb
        exact absurd hb (by decide)
    have hi0 : i ≠ 0 := by
      intro h
      rw [h, hk0] at hki
      exact absurd hki (by decide)
    refine ih f (i + 1) _ _ a10 a11 a12 a13 a14 (by omega) (by omega) ⟨hp, hT, ?_, ?_, ?_⟩ ?_
    · intro j hj
      by_cases hji : j = i
      · subst hji
        intro p hp'
        rw [ln_us, ln_us, ln_bls _ (d2 j (by omega)).2 q q1 p hp', List.filter_filter]
        by_cases hpq : p = q
        · subst hpq
          rw [ln_fnil (fun t _ => by by_cases h : t.1 = p <;> simp [ln_pt, h])]
          simp
        · have e1 : (L j).filter (fun a => ln_pt p a && !(a.1 == q)) = (L j).filter (ln_pt p) := by
            apply List.filter_congr
            intro t _
            by_cases h : t.1 = p
            · simp [ln_pt, h, hpq]
            · simp [ln_pt, h]
          rw [e1, d3 j hj p hp']
          simp [hpq]
      · exact ln_snd_c (ln_un hji) (ln_un hji) (d3 j hj)
    · rw [ln_un (Ne.symm hi0), ln_un (Ne.symm hi0)]
      exact d4
    · intro j hj hj2
      rw [ln_un (by omega), ln_un (by omega)]
      exact d5 j hj hj2
    · intro j hj hkj
      have hji : j ≠ i := by
        intro h
        rw [h, hki] at hkj
        exact absurd hkj (by decide)
      rw [ln_un hji, ln_un hji]
      exact hqt j hj hkj
end
theorem ln_lose {post : Int32 → St2 → Prop} {R : List ln_T} {P : Nat → ln_PE} {F : Nat → List ln_T} {S w : Nat} {kp : Nat → Bool} {Bg : Nat → Prop} {x : Int32} (h0 : ln_st0 R P F S kp) (hx : x = nI w) (hw : w ≤ 3) (u : St2) (hQ : ln_Q R P F S kp Bg u) (H : ∀ u : St2, ln_Q R P F S kp Bg u → post 1 u) : wpX_lose post u x := by
  obtain ⟨hc, sc, lv, cl, pk, pv, oc, a1, a2, a3, a4, a5, a6, a7, a8, a9, a10, a11, a12, a13, a14, a15, a16, a17, a18, a19, a20, a21, a22, a23, a24, a25⟩ := u
  subst hx
  obtain ⟨s1, s2, s3⟩ := h0
  obtain ⟨m1, m2, m3, m4, m5, L, T, m6, m7⟩ := hQ
  unfold wpX_lose
  refine br_f (nI_pos (by omega)) (pk_le w 3 (fun _ => ⟨17, ?_⟩) (fun z => absurd z (by omega)))
  exact ln_lose13 hc sc lv cl pk pv oc a1 a2 a3 a4 a5 a6 a7 a8 a9 a15 a16 a17 a18 a19 a20 a21 a22 a23 a24 a25 m1 s1.1 s3 (fun L T a10 a11 a12 a13 a14 hd hq => H _ ⟨m1, m2, m3, m4, m5, L, T, hd, hq⟩) S 17 0 L T a10 a11 a12 a13 a14 (by omega) (by have := s1.1; omega) m6 m7
theorem ln_loseX {post : Int32 → St2 → Prop} (u : St2) (H : post 0 u) : wpX_lose post u 4 := by
  obtain ⟨hc, sc, lv, cl, pk, pv, oc, a1, a2, a3, a4, a5, a6, a7, a8, a9, a10, a11, a12, a13, a14, a15, a16, a17, a18, a19, a20, a21, a22, a23, a24, a25⟩ := u
  unfold wpX_lose
  exact br_f (by decide) (br_f (by decide) H)
theorem ln_Qlevel {post : Int32 → St2 → Prop} {R : List ln_T} {P : Nat → ln_PE} {F : Nat → List ln_T} {S w : Nat} {kp : Nat → Bool} {Bg : Nat → Prop} {x : Int32} (hx : x = nI w) (hw : w ≤ 2) (u : St2) (hQ : ln_Q R P F S kp Bg u) (H : ∀ u : St2, ln_Q R P F S kp Bg u → post 1 u) : wpX_level post u x := by
  obtain ⟨hc, sc, lv, cl, pk, pv, oc, a1, a2, a3, a4, a5, a6, a7, a8, a9, a10, a11, a12, a13, a14, a15, a16, a17, a18, a19, a20, a21, a22, a23, a24, a25⟩ := u
  exact ln_level hc sc lv cl pk pv oc a1 a2 a3 a4 a5 a6 a7 a8 a9 a10 a11 a12 a13 a14 a15 a16 a17 a18 a19 a20 a21 a22 a23 a24 a25 hx (by omega) (fun _ => H _ hQ) (fun z => absurd z (by omega))
theorem ln_levelN {post : Int32 → St2 → Prop} (u : St2) (H : post 0 u) : wpX_level post u 3 := by
  obtain ⟨hc, sc, lv, cl, pk, pv, oc, a1, a2, a3, a4, a5, a6, a7, a8, a9, a10, a11, a12, a13, a14, a15, a16, a17, a18, a19, a20, a21, a22, a23, a24, a25⟩ := u
  exact ln_level hc sc lv cl pk pv oc a1 a2 a3 a4 a5 a6 a7 a8 a9 a10 a11 a12 a13 a14 a15 a16 a17 a18 a19 a20 a21 a22 a23 a24 a25 (k := 3) rfl (by decide) (fun z => absurd z (by decide)) (fun _ => H)
theorem ln_Qkeep1 {post : Int32 → St2 → Prop} {R : List ln_T} {P : Nat → ln_PE} {F : Nat → List ln_T} {S d : Nat} {kp : Nat → Bool} {Bg : Nat → Prop} (hS : S ≤ 16) (hd : d < S) (u : St2) (hQ : ln_Q R P F S kp Bg u) (H : ∀ u : St2, ln_Q R P F S (ln_up kp d true) Bg u → post 1 u) : wpX_keep post u (nI d) 1 := by
  obtain ⟨hc, sc, lv, cl, pk, pv, oc, a1, a2, a3, a4, a5, a6, a7, a8, a9, a10, a11, a12, a13, a14, a15, a16, a17, a18, a19, a20, a21, a22, a23, a24, a25⟩ := u
  obtain ⟨m1, m2, m3, m4, m5, L, T, m6, m7⟩ := hQ
  refine ln_keep1 hc sc lv cl pk pv oc a1 a2 a3 a4 a5 a6 a7 a8 a9 a10 a11 a12 a13 a14 a15 a16 a17 a18 a19 a20 a21 a22 a23 a24 a25 m1 hS hd (H _ ⟨m1, m2, m3, ?_, m5, L, T, m6, ?_⟩)
  · intro j hj
    by_cases h : j = d
    · subst h
      rw [pk_us, ln_us]
      rfl
    · rw [pk_un h, ln_un h]
      exact m4 j hj
  · intro j hj hk
    by_cases h : j = d
    · subst h
      rw [ln_us] at hk
      exact absurd hk (by decide)
    · rw [ln_un h] at hk
      exact m7 j hj hk
theorem ln_Qkeep0 {post : Int32 → St2 → Prop} {R : List ln_T} {P : Nat → ln_PE} {F : Nat → List ln_T} {S d : Nat} {kp : Nat → Bool} {Bg : Nat → Prop} (hS : S ≤ 16) (hd : d < S) (hd0 : d ≠ 0) (u : St2) (hQ : ln_Q R P F S kp Bg u) (H : ∀ u : St2, ln_Q R P F S (ln_up kp d false) Bg u → post 1 u) : wpX_keep post u (nI d) 0 := by
  obtain ⟨hc, sc, lv, cl, pk, pv, oc, a1, a2, a3, a4, a5, a6, a7, a8, a9, a10, a11, a12, a13, a14, a15, a16, a17, a18, a19, a20, a21, a22, a23, a24, a25⟩ := u
  obtain ⟨m1, m2, m3, m4, m5, L, T, m6, m7⟩ := hQ
  obtain ⟨d1, d2, d3, d4, d5⟩ := m6
  refine ln_keep0 hc sc lv cl pk pv oc a1 a2 a3 a4 a5 a6 a7 a8 a9 a10 a11 a12 a13 a14 a15 a16 a17 a18 a19 a20 a21 a22 a23 a24 a25 m1 hS hd (H _ ⟨m1, m2, m3, ?_, m5, ln_up L d [], ln_up T d 0, ⟨ln_picF d1, ln_mskU d2 (by decide), ?_, ?_, ?_⟩, ?_⟩)
  · intro j hj
    by_cases h : j = d
    · subst h
      rw [pk_us, ln_us]
      rfl
    · rw [pk_un h, ln_un h]
      exact m4 j hj
  · intro j hj
    by_cases h : j = d
    · subst h
      exact ln_snd_0 (ln_us _ _ _) (ln_us _ _ _)
    · exact ln_snd_c (ln_un h) (ln_un h) (d3 j hj)
  · rw [ln_un (Ne.symm hd0), ln_un (Ne.symm hd0)]
    exact d4
  · intro j hj hj2
    rw [ln_un (by omega), ln_un (by omega)]
    exact d5 j hj hj2
  · intro j hj hk
    by_cases h : j = d
    · subst h
      exact ⟨ln_us _ _ _, ln_us _ _ _⟩
    · rw [ln_un h] at hk
      rw [ln_un h, ln_un h]
      exact m7 j hj hk
theorem ln_QkeepN {post : Int32 → St2 → Prop} {R : List ln_T} {P : Nat → ln_PE} {F : Nat → List ln_T} {S d : Nat} {kp : Nat → Bool} {Bg : Nat → Prop} {x : Int32} (hS : S ≤ 16) (hd : S ≤ d) (hd2 : d < 100) (u : St2) (hQ : ln_Q R P F S kp Bg u) (H : post 0 u) : wpX_keep post u (nI d) x := by
  obtain ⟨hc, sc, lv, cl, pk, pv, oc, a1, a2, a3, a4, a5, a6, a7, a8, a9, a10, a11, a12, a13, a14, a15, a16, a17, a18, a19, a20, a21, a22, a23, a24, a25⟩ := u
  exact ln_keepN hc sc lv cl pk pv oc a1 a2 a3 a4 a5 a6 a7 a8 a9 a10 a11 a12 a13 a14 a15 a16 a17 a18 a19 a20 a21 a22 a23 a24 a25 hQ.1 hS hd (by omega) H
theorem ln_Qdrop {post : Int32 → St2 → Prop} {R : List ln_T} {P : Nat → ln_PE} {F : Nat → List ln_T} {S : Nat} {kp : Nat → Bool} {Bg : Nat → Prop} (hS : S < 16) (hS0 : S ≠ 0) (u : St2) (hQ : ln_Q R P F (S + 1) kp Bg u) (H : ∀ u : St2, ln_Q R P F S kp Bg u → post (nI S) u) : wpX_drop post u := by
  obtain ⟨hc, sc, lv, cl, pk, pv, oc, a1, a2, a3, a4, a5, a6, a7, a8, a9, a10, a11, a12, a13, a14, a15, a16, a17, a18, a19, a20, a21, a22, a23, a24, a25⟩ := u
  obtain ⟨m1, m2, m3, m4, m5, L, T, m6, m7⟩ := hQ
  obtain ⟨d1, d2, d3, d4, d5⟩ := m6
  refine ln_drop hc sc lv cl pk pv oc a1 a2 a3 a4 a5 a6 a7 a8 a9 a10 a11 a12 a13 a14 a15 a16 a17 a18 a19 a20 a21 a22 a23 a24 a25 m1 hS (H _ ⟨rfl, fun j hj => m2 j (by omega), m3, m4, m5, ln_up L S [], ln_up T S 0, ⟨ln_picF d1, ln_mskU d2 (by decide), ?_, ?_, ?_⟩, ?_⟩)
  · intro j hj
    exact ln_snd_c (ln_un (by omega)) (ln_un (by omega)) (d3 j (by omega))
  · rw [ln_un (Ne.symm hS0), ln_un (Ne.symm hS0)]
    exact d4
  · intro j hj hj2
    by_cases h : j = S
    · subst h
      exact ⟨ln_us _ _ _, ln_us _ _ _⟩
    · rw [ln_un h, ln_un h]
      exact d5 j (by omega) hj2
  · intro j hj hk
    by_cases h : j = S
    · subst h
      exact ⟨ln_us _ _ _, ln_us _ _ _⟩
    · rw [ln_un h, ln_un h]
      exact m7 j hj hk
theorem ln_Qderive {post : Int32 → St2 → Prop} {R : List ln_T} {P P' : Nat → ln_PE} {F F' : Nat → List ln_T} {k x S : Nat} {a b : Int32} {kp : Nat → Bool} {Bg Bg' : Nat → Prop} (hS : S < 16) (hS0 : S ≠ 0) (hk0 : 1 ≤ k) (hk : k ≤ 11) (hx : x < S) (h2 : ln_two k = true → ∃ y, y < S ∧ a = nI y) (h4 : k = 4 ∨ k = 6 → ∃ y, y ≤ 3 ∧ a = nI y) (h10 : k = 10 → ∃ y, 1 ≤ y ∧ y ≤ 8 ∧ a = nI y)
    (hP : ∀ j, j < S → P' j = P j) (hPS : P' S = (k, x, a, b)) (hF : ∀ j, j < S → F' j = F j) (hB : ∀ j, j ≠ S → Bg j → Bg' j) (hkS : kp S = false) (u : St2) (hQ : ln_Q R P F S kp Bg u) (H : ∀ u : St2, ln_Q R P' F' (S + 1) kp Bg' u → post (nI S) u) : wpX_derive post u (nI k) (nI x) a b := by
  obtain ⟨hc, sc, lv, cl, pk, pv, oc, a1, a2, a3, a4, a5, a6, a7, a8, a9, a10, a11, a12, a13, a14, a15, a16, a17, a18, a19, a20, a21, a22, a23, a24, a25⟩ := u
  obtain ⟨m1, m2, m3, m4, m5, L, T, m6, m7⟩ := hQ
  obtain ⟨d1, d2, d3, d4, d5⟩ := m6
  obtain ⟨t0, l0⟩ := d5 S (Nat.le_refl _) hS
  refine ln_derive hc sc lv cl pk pv oc a1 a2 a3 a4 a5 a6 a7 a8 a9 a10 a11 a12 a13 a14 a15 a16 a17 a18 a19 a20 a21 a22 a23 a24 a25 m1 hS hk0 hk hx h2 h4 h10 (H _ ⟨rfl, ?_, m3, ?_, ?_, ln_up L S [], ln_up T S 0, ⟨ln_picF d1, ln_mskU d2 (by decide), ?_, ?_, ?_⟩, ?_⟩)
  · intro j hj
    by_cases h : j = S
    · subst h
      rw [hPS, pk_us, pk_us, pk_us, pk_us]
      exact ⟨rfl, rfl, rfl, rfl⟩
    · rw [pk_un h, pk_un h, pk_un h, pk_un h, hP j (by omega)]
      exact m2 j (by omega)
  · intro j hj
    by_cases h : j = S
    · subst h
      rw [pk_us, hkS]
      rfl
    · rw [pk_un h]
      exact m4 j hj
  · intro j hj h2
    by_cases h : j = S
    · subst h
      rw [pk_us] at h2
      exact absurd h2 (by decide)
    · rw [pk_un h] at h2
      exact hB j h (m5 j hj h2)
  · intro j hj
    by_cases h : j = S
    · subst h
      exact ln_snd_0 (ln_us _ _ _) (ln_us _ _ _)
    · intro q hq
      rw [ln_un h, ln_un h, hF j (by omega)]
      exact d3 j (by omega) q hq
  · rw [ln_un (Ne.symm hS0), ln_un (Ne.symm hS0), hF 0 (by omega)]
    exact d4
  · intro j hj hj2
    rw [ln_un (by omega), ln_un (by omega)]
    exact d5 j (by omega) hj2
  · intro j hj hk
    by_cases h : j = S
    · subst h
      exact ⟨ln_us _ _ _, ln_us _ _ _⟩
    · rw [ln_un h, ln_un h]
      exact m7 j hj hk
end
section
/-! the law's own functions -/
def ln_K (w : Int32) (k : Nat) : Nat := ((w >>> ((nI k &&& 15) &&& 31)) &&& 15).toNatClampNeg
def ln_V (u : Int32) (k : Nat) : Int32 := ((u >>> ((nI k - nI k / 13 * 13) &&& 31)) - (u >>> ((nI k - nI k / 13 * 13) &&& 31)) / 30 * 30) + (nI k - nI k / 4 * 4)
def ln_nn (f : Nat → Nat) : Nat → Nat
  | 0 => 0
  | n + 1 => ln_nn f n + f n
def ln_cn (p : Nat → Bool) (n : Nat) : Nat := ln_nn (fun i => if p i = true then 1 else 0) n
def ln_ss (f : Nat → Int32) : Nat → Int32
  | 0 => 0
  | n + 1 => ln_ss f n + f n
theorem ln_cn_s (p : Nat → Bool) (n : Nat) : ln_cn p (n + 1) = ln_cn p n + (if p n = true then 1 else 0) := rfl
theorem ln_cn_t {p : Nat → Bool} {n : Nat} (h : p n = true) : ln_cn p (n + 1) = ln_cn p n + 1 := by rw [ln_cn_s, if_pos h]
theorem ln_cn_f {p : Nat → Bool} {n : Nat} (h : p n = false) : ln_cn p (n + 1) = ln_cn p n := by rw [ln_cn_s, if_neg (by rw [h]; decide), Nat.add_zero]
theorem ln_cn_le (p : Nat → Bool) (n : Nat) : ln_cn p n ≤ n := by
  induction n with
  | zero => exact Nat.le_refl _
  | succ n ih =>
    rw [ln_cn_s]
    split <;> omega
theorem ln_cn_0 {p : Nat → Bool} {n : Nat} : ln_cn p n = 0 ↔ ∀ j, j < n → p j = false := by
  induction n with
  | zero => exact ⟨fun _ j h => absurd h (by omega), fun _ => rfl⟩
  | succ n ih =>
    rw [ln_cn_s]
    constructor
    · intro h j hj
      have h1 : ln_cn p n = 0 := by omega
      by_cases hjn : j = n
      · subst hjn
        cases hp : p j with
        | false => rfl
        | true => rw [hp] at h; simp at h
      · exact ih.mp h1 j (by omega)
    · intro h
      rw [ih.mpr (fun j hj => h j (by omega)), h n (by omega)]
      rfl
theorem ln_K_e (w : Int32) (k : Nat) : (w >>> ((nI k &&& 15) &&& 31)) &&& 15 = nI (ln_K w k) ∧ ln_K w k < 16 := by
  obtain ⟨j, h1, h2⟩ := pk_andE (w >>> ((nI k &&& 15) &&& 31)) (m := 15) 4 (by decide)
  have e : ln_K w k = j := by
    unfold ln_K
    rw [h2]
    exact nI_clamp (by omega)
  rw [e]
  exact ⟨h2, h1⟩
theorem ln_key {post : Int32 → Prop} {w : Int32} {k : Nat} (H : post (nI (ln_K w k))) : wpL_key post () w (nI k) := by
  unfold wpL_key
  rw [(ln_K_e w k).1]
  exact H
theorem ln_value {post : Int32 → Prop} {u : Int32} {k : Nat} (H : post (ln_V u k)) : wpL_value post () u (nI k) := by
  unfold wpL_value
  exact ⟨by decide, by decide, by decide, H⟩
theorem ln_rem30 (x : Int32) : -30 < (x - x / 30 * 30).toInt ∧ (x - x / 30 * 30).toInt < 30 := by
  have h1 := x.toInt_lt
  have h2 := x.le_toInt
  have e : (30 : Int32).toInt = 30 := rfl
  have a1 := Int.mul_tdiv_add_tmod x.toInt 30
  have a2 := Int.tmod_lt_of_pos x.toInt (show (0 : Int) < 30 by decide)
  have a3 := Int.lt_tmod_of_pos x.toInt (show (0 : Int) < 30 by decide)
  have a4 : 0 ≤ x.toInt → 0 ≤ x.toInt.tmod 30 := fun h => Int.tmod_nonneg 30 h
  have a5 : x.toInt ≤ 0 → x.toInt.tmod 30 ≤ 0 := fun h => by
    have h5 := Int.tmod_nonneg (a := -x.toInt) 30 (by omega)
    rw [Int.neg_tmod] at h5
    omega
  rw [Int32.toInt_sub, Int32.toInt_mul, Int32.toInt_div_of_ne_right _ _ (by decide), e]
  rw [Int.bmod_eq_of_le (n := x.toInt.tdiv 30 * 30) (by omega) (by omega)]
  rw [Int.bmod_eq_of_le (by omega) (by omega)]
  omega
theorem ln_V_ge (u : Int32) {k : Nat} (hk : k < 1000) : ¬ ln_V u k < -1000 := by
  have h := ln_rem30 (u >>> ((nI k - nI k / 13 * 13) &&& 31))
  have e4 : nI k - nI k / 4 * 4 = nI (k % 4) := pk_rem (a := k) (d := 4) (by omega) (by decide) (by decide)
  have e5 : (nI (k % 4)).toInt = ((k % 4 : Nat) : Int) := nI_toInt (by omega)
  have hk4 : k % 4 < 4 := Nat.mod_lt _ (by decide)
  rw [Int32.lt_iff_toInt_lt]
  unfold ln_V
  rw [e4, Int32.toInt_add, e5, Int.bmod_eq_of_le (by omega) (by omega)]
  have : (-1000 : Int32).toInt = -1000 := rfl
  rw [this]
  omega
def ln_hp (w u : Int32) (key : Nat) (v : Int32) (j : Nat) : Bool := ln_K w j == key && !decide (ln_V u j < v)
def ln_pp (w u : Int32) (k j : Nat) : Bool := decide (ln_K w j < ln_K w k) || (ln_K w j == ln_K w k && (decide (ln_V u j < ln_V u k) || (ln_V u j == ln_V u k && decide (j < k))))
def ln_bp (w u : Int32) (k j : Nat) : Bool := decide (ln_V u k < ln_V u j) || (ln_V u j == ln_V u k && (decide (ln_K w k < ln_K w j) || (ln_K w j == ln_K w k && decide (k < j))))
def ln_sv (w u : Int32) (key j : Nat) : Int32 := if ln_K w j = key then ln_V u j else 0
theorem ln_having6 {post : Int32 → Prop} {w u v : Int32} {n key : Nat} (hn : n < 1000) (hk : key < 1000) (H : post (nI (ln_cn (ln_hp w u key v) n))) :
    ∀ (c f i : Nat), i + c = n → c < f → wL_having_6 post w u (nI n) (nI key) v f (nI (ln_cn (ln_hp w u key v) i)) (nI i) := by
  intro c
  induction c with
  | zero =>
    intro f i hi hf
    obtain ⟨f, rfl⟩ : ∃ g, f = g + 1 := ⟨f - 1, by omega⟩
    have : i = n := by omega
    subst this
    exact pk_le i i (fun _ => H) (fun z => absurd z (by omega))
  | succ c ih =>
    intro f i hi hf
    obtain ⟨f, rfl⟩ : ∃ g, f = g + 1 := ⟨f - 1, by omega⟩
    have G := ih f (i + 1) (by omega) (by omega)
    have hK := (ln_K_e w i).2
    refine pk_le n i (fun z => absurd z (by omega)) (fun _ => ?_)
    refine ln_key (pk_eq (ln_K w i) key (fun z => ln_value (br_c (fun zl => nm_r (nI_1 i) ?_) (fun zl => nm_r (nI_1 _) (nm_r (nI_1 i) ?_)))) (fun z => nm_r (nI_1 i) ?_))
    · rw [ln_cn_f (by simp [ln_hp, z, zl])] at G
      exact G
    · rw [ln_cn_t (by simp [ln_hp, z, zl])] at G
      exact G
    · rw [ln_cn_f (by simp [ln_hp, z])] at G
      exact G
theorem ln_having {post : Int32 → Prop} {w u v : Int32} {n key : Nat} (hn : n < 1000) (hk : key < 1000) (H : post (nI (ln_cn (ln_hp w u key v) n))) : wpL_having post () w u (nI n) (nI key) v := by
  unfold wpL_having
  exact ⟨n + 1, ln_having6 hn hk H n (n + 1) 0 (by omega) (by omega)⟩
theorem ln_sumOf6 {post : Int32 → Prop} {w u : Int32} {n key : Nat} (hn : n < 1000) (hk : key < 1000) (H : post (ln_ss (ln_sv w u key) n)) :
    ∀ (c f i : Nat), i + c = n → c < f → wL_sumOf_6 post w u (nI n) (nI key) f (ln_ss (ln_sv w u key) i) (nI i) := by
  intro c
  induction c with
  | zero =>
    intro f i hi hf
    obtain ⟨f, rfl⟩ : ∃ g, f = g + 1 := ⟨f - 1, by omega⟩
    have : i = n := by omega
    subst this
    exact pk_le i i (fun _ => H) (fun z => absurd z (by omega))
  | succ c ih =>
    intro f i hi hf
    obtain ⟨f, rfl⟩ : ∃ g, f = g + 1 := ⟨f - 1, by omega⟩
    have G := ih f (i + 1) (by omega) (by omega)
    have hK := (ln_K_e w i).2
    rw [ln_ss] at G
    refine pk_le n i (fun z => absurd z (by omega)) (fun _ => ?_)
    refine ln_key (pk_eq (ln_K w i) key (fun z => ln_value (nm_e (nm_r (nI_1 i) ?_))) (fun z => nm_r (nI_1 i) ?_))
    · rw [ln_sv, if_pos z] at G
      exact G
    · rw [ln_sv, if_neg z, Int32.add_zero] at G
      exact G
theorem ln_sumOf {post : Int32 → Prop} {w u : Int32} {n key : Nat} (hn : n < 1000) (hk : key < 1000) (H : post (ln_ss (ln_sv w u key) n)) : wpL_sumOf post () w u (nI n) (nI key) := by
  unfold wpL_sumOf
  exact ⟨n + 1, ln_sumOf6 hn hk H n (n + 1) 0 (by omega) (by omega)⟩
theorem ln_place20 {post : Int32 → Prop} {w u : Int32} {n k : Nat} (hn : n < 1000) (hk : k < 1000) (H : post (nI (ln_cn (ln_pp w u k) n))) :
    ∀ (c f i : Nat), i + c = n → c < f → wL_place_20 post w u (nI n) (nI k) (nI (ln_K w k)) (ln_V u k) f (nI (ln_cn (ln_pp w u k) i)) (nI i) := by
  have hKk := (ln_K_e w k).2
  intro c
  induction c with
  | zero =>
    intro f i hi hf
    obtain ⟨f, rfl⟩ : ∃ g, f = g + 1 := ⟨f - 1, by omega⟩
    have : i = n := by omega
    subst this
    exact pk_le i i (fun _ => H) (fun z => absurd z (by omega))
  | succ c ih =>
    intro f i hi hf
    obtain ⟨f, rfl⟩ : ∃ g, f = g + 1 := ⟨f - 1, by omega⟩
    have G := ih f (i + 1) (by omega) (by omega)
    have hK := (ln_K_e w i).2
    have Gt : ln_pp w u k i = true → wL_place_20 post w u (nI n) (nI k) (nI (ln_K w k)) (ln_V u k) f (nI (ln_cn (ln_pp w u k) i + 1)) (nI (i + 1)) := fun h => by rw [ln_cn_t h] at G; exact G
    have Gf : ln_pp w u k i = false → wL_place_20 post w u (nI n) (nI k) (nI (ln_K w k)) (ln_V u k) f (nI (ln_cn (ln_pp w u k) i)) (nI (i + 1)) := fun h => by rw [ln_cn_f h] at G; exact G
    refine pk_le n i (fun z => absurd z (by omega)) (fun _ => ?_)
    refine ln_key (ln_value (pk_lt (ln_K w i) (ln_K w k) (fun z => nm_r (nI_1 _) (nm_r (nI_1 i) (Gt ?_))) (fun z => pk_eq (ln_K w i) (ln_K w k) (fun ze => br_c (fun zv => nm_r (nI_1 _) (nm_r (nI_1 i) (Gt ?_))) (fun zv => br_c (fun zw => pk_le k i (fun zi => nm_r (nI_1 i) (Gf ?_)) (fun zi => nm_r (nI_1 _) (nm_r (nI_1 i) (Gt ?_)))) (fun zw => nm_r (nI_1 i) (Gf ?_)))) (fun ze => nm_r (nI_1 i) (Gf ?_)))))
    · simp [ln_pp, z]
    · simp [ln_pp, ze, zv]
    · have : ¬ i < k := by omega
      simp [ln_pp, ze, zw, this, Int32.lt_irrefl]
    · simp [ln_pp, ze, zw, zi]
    · simp [ln_pp, ze, zv, zw]
    · have : ¬ ln_K w i < ln_K w k := by omega
      simp [ln_pp, ze, this]
theorem ln_place {post : Int32 → Prop} {w u : Int32} {n k : Nat} (hn : n < 1000) (hk : k < 1000) (H : post (nI (ln_cn (ln_pp w u k) n))) : wpL_place post () w u (nI n) (nI k) := by
  unfold wpL_place
  exact ln_key (ln_value ⟨n + 1, ln_place20 hn hk H n (n + 1) 0 (by omega) (by omega)⟩)
theorem ln_behind20 {post : Int32 → Prop} {w u : Int32} {n k : Nat} (hn : n < 1000) (hk : k < 1000) (H : post (nI (ln_cn (ln_bp w u k) n))) :
    ∀ (c f i : Nat), i + c = n → c < f → wL_behind_20 post w u (nI n) (nI k) (nI (ln_K w k)) (ln_V u k) f (nI (ln_cn (ln_bp w u k) i)) (nI i) := by
  have hKk := (ln_K_e w k).2
  intro c
  induction c with
  | zero =>
    intro f i hi hf
    obtain ⟨f, rfl⟩ : ∃ g, f = g + 1 := ⟨f - 1, by omega⟩
    have : i = n := by omega
    subst this
    exact pk_le i i (fun _ => H) (fun z => absurd z (by omega))
  | succ c ih =>
    intro f i hi hf
    obtain ⟨f, rfl⟩ : ∃ g, f = g + 1 := ⟨f - 1, by omega⟩
    have G := ih f (i + 1) (by omega) (by omega)
    have hK := (ln_K_e w i).2
    have Gt : ln_bp w u k i = true → wL_behind_20 post w u (nI n) (nI k) (nI (ln_K w k)) (ln_V u k) f (nI (ln_cn (ln_bp w u k) i + 1)) (nI (i + 1)) := fun h => by rw [ln_cn_t h] at G; exact G
    have Gf : ln_bp w u k i = false → wL_behind_20 post w u (nI n) (nI k) (nI (ln_K w k)) (ln_V u k) f (nI (ln_cn (ln_bp w u k) i)) (nI (i + 1)) := fun h => by rw [ln_cn_f h] at G; exact G
    refine pk_le n i (fun z => absurd z (by omega)) (fun _ => ?_)
    refine ln_key (ln_value (br_c (fun zv => nm_r (nI_1 _) (nm_r (nI_1 i) (Gt ?_))) (fun zv => br_c (fun ze => pk_lt (ln_K w k) (ln_K w i) (fun z => nm_r (nI_1 _) (nm_r (nI_1 i) (Gt ?_))) (fun z => pk_eq (ln_K w i) (ln_K w k) (fun zk => pk_le i k (fun zi => nm_r (nI_1 i) (Gf ?_)) (fun zi => nm_r (nI_1 _) (nm_r (nI_1 i) (Gt ?_)))) (fun zk => nm_r (nI_1 i) (Gf ?_)))) (fun ze => nm_r (nI_1 i) (Gf ?_)))))
    · simp [ln_bp, zv]
    · simp [ln_bp, ze, z]
    · have : ¬ k < i := by omega
      simp [ln_bp, ze, zk, this, Int32.lt_irrefl]
    · simp [ln_bp, ze, zk, zi]
    · have : ¬ ln_K w k < ln_K w i := by omega
      simp [ln_bp, ze, zk, this, Int32.lt_irrefl]
    · simp [ln_bp, ze, zv]
theorem ln_behind {post : Int32 → Prop} {w u : Int32} {n k : Nat} (hn : n < 1000) (hk : k < 1000) (H : post (nI (ln_cn (ln_bp w u k) n))) : wpL_behind post () w u (nI n) (nI k) := by
  unfold wpL_behind
  exact ln_key (ln_value ⟨n + 1, ln_behind20 hn hk H n (n + 1) 0 (by omega) (by omega)⟩)
def ln_ag (w u : Int32) (k j : Nat) : Bool := ln_K w j == ln_K w k && ln_V u j == ln_V u k
theorem ln_again2 {post : Int32 → Prop} {w u : Int32} {k : Nat} (hk : k < 1000) (H1 : ¬ ln_cn (ln_ag w u k) k = 0 → post 1) (H0 : ln_cn (ln_ag w u k) k = 0 → post 0) :
    ∀ (c f i : Nat), i + c = k → c < f → (∀ j, j < i → ln_ag w u k j = false) → wL_again_2 post w u (nI k) f (nI i) := by
  have hKk := (ln_K_e w k).2
  intro c
  induction c with
  | zero =>
    intro f i hi hf hj
    obtain ⟨f, rfl⟩ : ∃ g, f = g + 1 := ⟨f - 1, by omega⟩
    have : i = k := by omega
    subst this
    exact pk_le i i (fun _ => H0 (ln_cn_0.mpr hj)) (fun z => absurd z (by omega))
  | succ c ih =>
    intro f i hi hf hj
    obtain ⟨f, rfl⟩ : ∃ g, f = g + 1 := ⟨f - 1, by omega⟩
    have hK := (ln_K_e w i).2
    have G : ln_ag w u k i = false → wL_again_2 post w u (nI k) f (nI (i + 1)) := by
      intro h
      refine ih f (i + 1) (by omega) (by omega) (fun j hj2 => ?_)
      by_cases hji : j = i
      · rw [hji]; exact h
      · exact hj j (by omega)
    refine pk_le k i (fun z => absurd z (by omega)) (fun _ => ?_)
    refine ln_key (ln_value (ln_key (pk_eq (ln_K w i) (ln_K w k) (fun z => ln_value (br_c (fun zv => H1 (fun h0 => ?_)) (fun zv => nm_r (nI_1 i) (G ?_)))) (fun z => nm_r (nI_1 i) (G ?_)))))
    · have := ln_cn_0.mp h0 i (by omega)
      simp [ln_ag, z, zv] at this
    · simp [ln_ag, z, zv]
    · simp [ln_ag, z]
theorem ln_again {post : Int32 → Prop} {w u : Int32} {k : Nat} (hk : k < 1000) (H1 : ¬ ln_cn (ln_ag w u k) k = 0 → post 1) (H0 : ln_cn (ln_ag w u k) k = 0 → post 0) : wpL_again post () w u (nI k) := by
  unfold wpL_again
  exact ⟨k + 1, ln_again2 hk H1 H0 k (k + 1) 0 (by omega) (by omega) (fun j hj => absurd hj (by omega))⟩
end
section
/-! counting -/
def ln_tr (K : Nat → Nat) (V : Nat → Int32) (i : Nat) : ln_T := (i % 4, K i, V i)
def ln_RR (K : Nat → Nat) (V : Nat → Int32) (n : Nat) : List ln_T := (List.range n).map (ln_tr K V)
theorem ln_RR_s (K : Nat → Nat) (V : Nat → Int32) (n : Nat) : ln_RR K V (n + 1) = ln_RR K V n ++ [ln_tr K V n] := by
  unfold ln_RR
  rw [List.range_succ, List.map_append]
  rfl
theorem ln_RR_len (K : Nat → Nat) (V : Nat → Int32) (n : Nat) : (ln_RR K V n).length = n := by
  unfold ln_RR
  rw [List.length_map, List.length_range]
theorem ln_RR_mem {K : Nat → Nat} {V : Nat → Int32} {n : Nat} {t : ln_T} : t ∈ ln_RR K V n ↔ ∃ i, i < n ∧ ln_tr K V i = t := by
  unfold ln_RR
  rw [List.mem_map]
  constructor
  · rintro ⟨i, h1, h2⟩
    exact ⟨i, List.mem_range.mp h1, h2⟩
  · rintro ⟨i, h1, h2⟩
    exact ⟨i, List.mem_range.mpr h1, h2⟩
theorem ln_RR_get {K : Nat → Nat} {V : Nat → Int32} {n i : Nat} {t : ln_T} (h : (ln_RR K V n)[i]? = some t) : i < n ∧ t = ln_tr K V i := by
  have hi : i < (ln_RR K V n).length := (List.getElem?_eq_some_iff.mp h).1
  rw [ln_RR_len] at hi
  refine ⟨hi, ?_⟩
  unfold ln_RR at h
  rw [List.getElem?_map, List.getElem?_range hi] at h
  exact (Option.some.inj h).symm
theorem ln_cn_c {p q : Nat → Bool} {n : Nat} (h : ∀ i, i < n → p i = q i) : ln_cn p n = ln_cn q n := by
  induction n with
  | zero => rfl
  | succ n ih => rw [ln_cn_s, ln_cn_s, ih (fun i hi => h i (by omega)), h n (by omega)]
theorem ln_ss_c {f g : Nat → Int32} {n : Nat} (h : ∀ i, i < n → f i = g i) : ln_ss f n = ln_ss g n := by
  induction n with
  | zero => rfl
  | succ n ih => rw [ln_ss, ln_ss, ih (fun i hi => h i (by omega)), h n (by omega)]
theorem ln_nn_c {f g : Nat → Nat} {n : Nat} (h : ∀ i, i < n → f i = g i) : ln_nn f n = ln_nn g n := by
  induction n with
  | zero => rfl
  | succ n ih => rw [ln_nn, ln_nn, ih (fun i hi => h i (by omega)), h n (by omega)]
theorem ln_nn_add (f g : Nat → Nat) (n : Nat) : ln_nn (fun i => f i + g i) n = ln_nn f n + ln_nn g n := by
  induction n with
  | zero => rfl
  | succ n ih => rw [ln_nn, ln_nn, ln_nn, ih]; omega
theorem ln_nn_k (k n : Nat) : ln_nn (fun _ => k) n = k * n := by
  induction n with
  | zero => rfl
  | succ n ih => rw [ln_nn, ih, Nat.mul_succ]
theorem ln_nn_one (x : Nat) : ∀ c, ln_nn (fun k => if (x == k) = true then 1 else 0) c = if x < c then 1 else 0 := by
  intro c
  induction c with
  | zero => rfl
  | succ c ih =>
    rw [ln_nn, ih]
    by_cases h : x = c
    · subst h
      simp
    · by_cases h2 : x < c
      · rw [if_pos h2, if_neg (by simpa using h), if_pos (by omega)]
      · rw [if_neg h2, if_neg (by simpa using h), if_neg (by omega)]
theorem ln_nn_zero (n : Nat) : ln_nn (fun _ => 0) n = 0 := by rw [ln_nn_k, Nat.zero_mul]
theorem ln_nn_dbl {K : Nat → Nat} (hK : ∀ i, K i < 16) (n : Nat) : ln_nn (fun k => ln_cn (fun i => K i == k) n) 16 = n := by
  induction n with
  | zero => exact ln_nn_zero 16
  | succ n ih =>
    rw [ln_nn_c (g := fun k => ln_cn (fun i => K i == k) n + (if (K n == k) = true then 1 else 0)) (fun k _ => ln_cn_s _ _), ln_nn_add, ih, ln_nn_one, if_pos (hK n)]
theorem ln_ss_nI (f : Nat → Nat) (n : Nat) : ln_ss (fun k => nI (f k)) n = nI (ln_nn f n) := by
  induction n with
  | zero => rfl
  | succ n ih => rw [ln_ss, ih, nI_add, ln_nn]
theorem ln_ss_add (f g : Nat → Int32) (n : Nat) : ln_ss (fun i => f i + g i) n = ln_ss f n + ln_ss g n := by
  induction n with
  | zero => rfl
  | succ n ih =>
    rw [ln_ss, ln_ss, ln_ss, ih]
    grind
theorem ln_ss_mul (c : Int32) (f : Nat → Int32) (n : Nat) : ln_ss (fun i => c * f i) n = c * ln_ss f n := by
  induction n with
  | zero => show (0 : Int32) = c * 0; grind
  | succ n ih =>
    rw [ln_ss, ln_ss, ih]
    grind
/-! lists over the rows -/
theorem ln_len_fm (K : Nat → Nat) (V : Nat → Int32) (g : ln_T → List ln_T) (n : Nat) : ((ln_RR K V n).flatMap g).length = ln_nn (fun i => (g (ln_tr K V i)).length) n := by
  induction n with
  | zero => rfl
  | succ n ih => rw [ln_RR_s, List.flatMap_append, List.length_append, ih, ln_nn]; simp
theorem ln_sm_fm (K : Nat → Nat) (V : Nat → Int32) (f : ln_T → Int32) (g : ln_T → List ln_T) (n : Nat) : ln_sm f ((ln_RR K V n).flatMap g) = ln_ss (fun i => ln_sm f (g (ln_tr K V i))) n := by
  induction n with
  | zero => rfl
  | succ n ih => rw [ln_RR_s, List.flatMap_append, ln_sm_app, ih, ln_ss]; simp
theorem ln_len_fl (K : Nat → Nat) (V : Nat → Int32) (p : ln_T → Bool) (n : Nat) : ((ln_RR K V n).filter p).length = ln_cn (fun i => p (ln_tr K V i)) n := by
  induction n with
  | zero => rfl
  | succ n ih =>
    rw [ln_RR_s, List.filter_append, List.length_append, ih, ln_cn_s]
    cases h : p (ln_tr K V n) <;> simp [h]
theorem ln_sm_fl (K : Nat → Nat) (V : Nat → Int32) (f : ln_T → Int32) (p : ln_T → Bool) (n : Nat) : ln_sm f ((ln_RR K V n).filter p) = ln_ss (fun i => if p (ln_tr K V i) = true then f (ln_tr K V i) else 0) n := by
  induction n with
  | zero => rfl
  | succ n ih =>
    rw [ln_RR_s, List.filter_append, ln_sm_app, ih, ln_ss]
    cases h : p (ln_tr K V n) <;> simp [h, ln_sm]
theorem ln_sm_one (l : List ln_T) : ln_sm (ln_hv 3) l = nI l.length := by
  induction l with
  | nil => rfl
  | cons t l ih =>
    show ln_hv 3 t + ln_sm (ln_hv 3) l = nI (l.length + 1)
    rw [ih, nI_succ, show ln_hv 3 t = 1 from rfl, Int32.add_comm]
theorem ln_sm_v (l : List ln_T) : ln_sm (ln_hv 0) l = ln_sm ln_v l := by
  induction l with
  | nil => rfl
  | cons t l ih =>
    show ln_hv 0 t + ln_sm (ln_hv 0) l = ln_v t + ln_sm ln_v l
    rw [ih]
    rfl
/-! reduced sets -/
def ln_ne (M : List ln_T) (k : Nat) : Bool := !(M.filter (ln_ky k)).isEmpty
theorem ln_rk15 (f : ln_T → Int32) (M : List ln_T) (k : Nat) : ln_rk 15 f M k = if ln_ne M k = true then [(k % 4, k, ln_sm f (M.filter (ln_ky k)))] else [] := by
  unfold ln_rk ln_ne
  rw [ln_b15 (k % 4) (Nat.mod_lt _ (by decide))]
  cases (M.filter (ln_ky k)).isEmpty <;> simp
theorem ln_ne0 {M : List ln_T} {k : Nat} (h : ln_ne M k = false) : M.filter (ln_ky k) = [] := by
  unfold ln_ne at h
  simpa using h
theorem ln_len_pt {g : Nat → List ln_T} {p : Nat → Bool} (h1 : ∀ k, p k = true → (g k).length = 1) (h0 : ∀ k, p k = false → g k = []) (c : Nat) : ((List.range c).flatMap g).length = ln_cn p c := by
  induction c with
  | zero => rfl
  | succ c ih =>
    rw [List.range_succ, List.flatMap_append, List.length_append, ih, ln_cn_s]
    cases h : p c with
    | true => simp [h1 c h]
    | false => simp [h0 c h]
theorem ln_sm_pt (f : ln_T → Int32) (g : Nat → List ln_T) (c : Nat) : ln_sm f ((List.range c).flatMap g) = ln_ss (fun k => ln_sm f (g k)) c := by
  induction c with
  | zero => rfl
  | succ c ih =>
    rw [List.range_succ, List.flatMap_append, ln_sm_app, ih, ln_ss]
    simp
theorem ln_fl_pt {g : Nat → List ln_T} (h : ∀ k s, s ∈ g k → s.2.1 = k) (k c : Nat) : ((List.range c).flatMap g).filter (ln_ky k) = if k < c then g k else [] := by
  induction c with
  | zero => rfl
  | succ c ih =>
    rw [List.range_succ, List.flatMap_append, List.filter_append, ih]
    have e : ([c].flatMap g).filter (ln_ky k) = if k = c then g k else [] := by
      rw [List.flatMap_cons, List.flatMap_nil, List.append_nil]
      by_cases hk : k = c
      · subst hk
        rw [if_pos rfl]
        exact ln_fself (fun s hs => by simp [ln_ky, h k s hs])
      · rw [if_neg hk]
        exact ln_fnil (fun s hs => by
          have := h c s hs
          simp [ln_ky, this]
          omega)
    rw [e]
    by_cases h1 : k < c
    · rw [if_pos h1, if_neg (by omega), if_pos (by omega), List.append_nil]
    · by_cases h2 : k = c
      · rw [if_neg h1, if_pos h2, if_pos (by omega), List.nil_append]
      · rw [if_neg h1, if_neg h2, if_neg (by omega), List.nil_append]
theorem ln_rd_rg (f : ln_T → Int32) (M : List ln_T) : ln_rd 15 f M = (List.range 16).flatMap (ln_rk 15 f M) := by
  unfold ln_rd
  rw [List.range_eq_range']
theorem ln_rk_key {f : ln_T → Int32} {M : List ln_T} : ∀ k s, s ∈ ln_rk 15 f M k → s.2.1 = k := by
  intro k s hs
  rw [ln_rk15] at hs
  split at hs
  · rw [List.mem_singleton.mp hs]
  · simp at hs
theorem ln_rd_lenE (f : ln_T → Int32) (M : List ln_T) : (ln_rd 15 f M).length = ln_cn (ln_ne M) 16 := by
  rw [ln_rd_rg]
  exact ln_len_pt (fun k h => by rw [ln_rk15, if_pos h]; rfl) (fun k h => by rw [ln_rk15, if_neg (by rw [h]; decide)]) 16
theorem ln_rk_sm (f : ln_T → Int32) (M : List ln_T) (k : Nat) : ln_sm ln_v (ln_rk 15 f M k) = ln_sm f (M.filter (ln_ky k)) := by
  rw [ln_rk15]
  cases h : ln_ne M k with
  | true =>
    rw [if_pos rfl]
    show ln_sm f (M.filter (ln_ky k)) + 0 = _
    rw [Int32.add_zero]
  | false => rw [if_neg (by decide), ln_ne0 h]; rfl
theorem ln_rd_smE (f : ln_T → Int32) (M : List ln_T) : ln_sm ln_v (ln_rd 15 f M) = ln_ss (fun k => ln_sm f (M.filter (ln_ky k))) 16 := by
  rw [ln_rd_rg, ln_sm_pt]
  exact ln_ss_c (fun k _ => ln_rk_sm f M k)
theorem ln_rd_lk (f : ln_T → Int32) (M : List ln_T) {k : Nat} (hk : k < 16) : ln_sm ln_v ((ln_rd 15 f M).filter (ln_ky k)) = ln_sm f (M.filter (ln_ky k)) := by
  rw [ln_rd_rg, ln_fl_pt ln_rk_key, if_pos hk, ln_rk_sm]
def ln_jk (f g : ln_T → Int32) (M : List ln_T) (k : Nat) : List ln_T := if ln_ne M k = true then [(k % 4, k, ln_sm f (M.filter (ln_ky k)) + ln_sm g (M.filter (ln_ky k)))] else []
theorem ln_jk_eq (f g : ln_T → Int32) (M : List ln_T) : (ln_rd 15 f M).flatMap (fun t => ln_jn t (ln_rd 15 g M)) = (List.range 16).flatMap (ln_jk f g M) := by
  rw [ln_rd_rg f, List.flatMap_assoc]
  have key : ∀ k, k < 16 → (ln_rk 15 f M k).flatMap (fun t => ln_jn t (ln_rd 15 g M)) = ln_jk f g M k := by
    intro k hk
    rw [ln_rk15, ln_jk]
    cases h : ln_ne M k with
    | true =>
      rw [if_pos rfl, if_pos rfl, List.flatMap_cons, List.flatMap_nil, List.append_nil, ln_jn]
      have e : (ln_rd 15 g M).filter (fun s => s.2.1 == k) = ln_rk 15 g M k := by
        have := ln_fl_pt (g := ln_rk 15 g M) ln_rk_key k 16
        rw [if_pos hk] at this
        rw [ln_rd_rg]
        exact this
      show ((ln_rd 15 g M).filter (fun s => s.2.1 == k)).map _ = _
      rw [e, ln_rk15, if_pos h]
      rfl
    | false => rw [if_neg (by decide), if_neg (by decide), List.flatMap_nil]
  have key2 : ∀ c, c ≤ 16 → (List.range c).flatMap (fun k => (ln_rk 15 f M k).flatMap (fun t => ln_jn t (ln_rd 15 g M))) = (List.range c).flatMap (ln_jk f g M) := by
    intro c
    induction c with
    | zero => intro _; rfl
    | succ c ih =>
      intro hc
      rw [List.range_succ, List.flatMap_append, List.flatMap_append, ih (by omega), List.flatMap_cons, List.flatMap_cons, key c (by omega)]
      rfl
  exact key2 16 (Nat.le_refl _)
theorem ln_jk_key {f g : ln_T → Int32} {M : List ln_T} : ∀ k s, s ∈ ln_jk f g M k → s.2.1 = k := by
  intro k s hs
  rw [ln_jk] at hs
  split at hs
  · rw [List.mem_singleton.mp hs]
  · simp at hs
theorem ln_jk_len (f g : ln_T → Int32) (M : List ln_T) : ((List.range 16).flatMap (ln_jk f g M)).length = ln_cn (ln_ne M) 16 :=
  ln_len_pt (fun k h => by rw [ln_jk, if_pos h]; rfl) (fun k h => by rw [ln_jk, if_neg (by rw [h]; decide)]) 16
theorem ln_jk_lk (f g : ln_T → Int32) (M : List ln_T) {k : Nat} (hk : k < 16) : ln_sm ln_v (((List.range 16).flatMap (ln_jk f g M)).filter (ln_ky k)) = ln_sm f (M.filter (ln_ky k)) + ln_sm g (M.filter (ln_ky k)) := by
  rw [ln_fl_pt ln_jk_key, if_pos hk, ln_jk]
  cases h : ln_ne M k with
  | true =>
    rw [if_pos rfl]
    show _ + (0 : Int32) = _
    rw [Int32.add_zero]
    rfl
  | false =>
    rw [if_neg (by decide), ln_ne0 h]
    rfl
/-! once, lone, last -/
theorem ln_ff_app {k m : Nat} {oth : List ln_T → List ln_T} {t : ln_T} : ∀ (r l : List ln_T), ln_ff k m oth (r ++ [t]) l = ln_ff k m oth [t] (ln_ff k m oth r l) := by
  intro r
  induction r with
  | nil => intro l; rfl
  | cons s r ih =>
    intro l
    rw [List.cons_append]
    by_cases h : m.testBit (s.2.1 % 4) = true ∧ (oth l).any (ln_hit k s) = false
    · rw [ln_ffT h.1 h.2, ln_ffT h.1 h.2]
      exact ih _
    · rw [ln_ffF h, ln_ffF h]
      exact ih _
theorem ln_any_one (K : Nat → Nat) (V : Nat → Int32) (t : ln_T) : ∀ n, (ln_ff 8 15 (fun l => l) (ln_RR K V n) []).any (ln_hit 8 t) = true ↔ ∃ j, j < n ∧ K j = t.2.1 ∧ V j = t.2.2 := by
  intro n
  induction n with
  | zero =>
    constructor
    · intro h; exact absurd (show false = true from h) (by decide)
    · rintro ⟨j, h, _⟩; exact absurd h (by omega)
  | succ n ih =>
    have hb := ln_b15 (K n % 4) (Nat.mod_lt _ (by decide))
    rw [ln_RR_s, ln_ff_app]
    cases ha : (ln_ff 8 15 (fun l => l) (ln_RR K V n) []).any (ln_hit 8 (ln_tr K V n)) with
    | true =>
      rw [ln_ffF (by rw [ha]; simp)]
      show (ln_ff 8 15 (fun l => l) (ln_RR K V n) []).any (ln_hit 8 t) = true ↔ _
      rw [ih]
      constructor
      · rintro ⟨j, h1, h2⟩
        exact ⟨j, by omega, h2⟩
      · rintro ⟨j, h1, h2, h3⟩
        by_cases hjn : j = n
        · subst hjn
          obtain ⟨s, hs, hh⟩ := List.any_eq_true.mp ha
          have ht : ln_hit 8 t s = true := by
            simp only [ln_hit, ln_tr] at hh ⊢
            rw [← h2, ← h3]
            exact hh
          exact ih.mp (List.any_eq_true.mpr ⟨s, hs, ht⟩)
        · exact ⟨j, by omega, h2, h3⟩
    | false =>
      rw [ln_ffT (t := ln_tr K V n) (oth := fun l => l) hb ha]
      show ((ln_ff 8 15 (fun l => l) (ln_RR K V n) []) ++ [(K n % 4, K n, V n)]).any (ln_hit 8 t) = true ↔ _
      rw [List.any_append, Bool.or_eq_true, ih]
      constructor
      · rintro (⟨j, h1, h2⟩ | h)
        · exact ⟨j, by omega, h2⟩
        · simp [ln_hit] at h
          exact ⟨n, by omega, h.1, h.2⟩
      · rintro ⟨j, h1, h2, h3⟩
        by_cases hjn : j = n
        · subst hjn
          right
          simp [ln_hit, h2, h3]
        · left
          exact ⟨j, by omega, h2, h3⟩
theorem ln_len_one (K : Nat → Nat) (V : Nat → Int32) : ∀ n, (ln_ff 8 15 (fun l => l) (ln_RR K V n) []).length = ln_cn (fun k => ln_cn (fun j => K j == K k && V j == V k) k == 0) n := by
  intro n
  induction n with
  | zero => rfl
  | succ n ih =>
    have hb := ln_b15 (K n % 4) (Nat.mod_lt _ (by decide))
    rw [ln_RR_s, ln_ff_app]
    cases ha : (ln_ff 8 15 (fun l => l) (ln_RR K V n) []).any (ln_hit 8 (ln_tr K V n)) with
    | true =>
      rw [ln_ffF (by rw [ha]; simp), ln_cn_f]
      · exact ih
      · obtain ⟨j, h1, h2, h3⟩ := (ln_any_one K V _ n).mp ha
        have hne : ¬ ln_cn (fun j => K j == K n && V j == V n) n = 0 := by
          intro h0
          have := ln_cn_0.mp h0 j h1
          simp only [ln_tr] at h2 h3
          simp [h2, h3] at this
        simpa using hne
    | false =>
      rw [ln_ffT (t := ln_tr K V n) (oth := fun l => l) hb ha, ln_cn_t]
      · show ((ln_ff 8 15 (fun l => l) (ln_RR K V n) []) ++ [_]).length = _
        rw [List.length_append, ih]
        rfl
      · have h0 : ln_cn (fun j => K j == K n && V j == V n) n = 0 := by
          apply ln_cn_0.mpr
          intro j hj
          cases hb2 : (K j == K n && V j == V n) with
          | false => rfl
          | true =>
            simp at hb2
            have := (ln_any_one K V (ln_tr K V n) n).mpr ⟨j, hj, hb2.1, hb2.2⟩
            rw [ha] at this
            exact absurd this (by decide)
        simpa using h0
theorem ln_len_wo (K : Nat → Nat) (V : Nat → Int32) (O : List ln_T) : ∀ n, (ln_ff 9 15 (fun _ => O) (ln_RR K V n) []).length = ln_cn (fun k => !(O.any (ln_hit 9 (ln_tr K V k)))) n := by
  intro n
  induction n with
  | zero => rfl
  | succ n ih =>
    have hb := ln_b15 (K n % 4) (Nat.mod_lt _ (by decide))
    rw [ln_RR_s, ln_ff_app]
    cases ha : O.any (ln_hit 9 (ln_tr K V n)) with
    | true =>
      rw [ln_ffF (by rw [ha]; simp), ln_cn_f (by rw [ha]; rfl)]
      exact ih
    | false =>
      rw [ln_ffT (t := ln_tr K V n) hb ha, ln_cn_t (by rw [ha]; rfl)]
      show ((ln_ff 9 15 (fun _ => O) (ln_RR K V n) []) ++ [_]).length = _
      rw [List.length_append, ih]
      rfl
theorem ln_bc_app (i : Nat) (t s : ln_T) : ∀ (r : List ln_T) (j : Nat), ln_bc i t (r ++ [s]) j = ln_bc i t r j + (if ln_cb i t (j + r.length) s = true then 1 else 0) := by
  intro r
  induction r with
  | nil =>
    intro j
    show (if ln_cb i t j s = true then 1 else 0) + 0 = 0 + _
    rw [Nat.add_comm]
    rfl
  | cons x r ih =>
    intro j
    rw [List.cons_append, ln_bc, ln_bc, ih, List.length_cons, show j + 1 + r.length = j + (r.length + 1) by omega]
    omega
theorem ln_bc_cn (K : Nat → Nat) (V : Nat → Int32) (i : Nat) (n : Nat) : ln_bc i (ln_tr K V i) (ln_RR K V n) 0 = ln_cn (fun j => ln_cb i (ln_tr K V i) j (ln_tr K V j)) n := by
  induction n with
  | zero => rfl
  | succ n ih => rw [ln_RR_s, ln_bc_app, ih, ln_cn_s, ln_RR_len, Nat.zero_add]
theorem ln_ls_app (a : Int32) (full : List ln_T) (s : ln_T) : ∀ (r : List ln_T) (i : Nat), ln_ls a full (r ++ [s]) i = ln_ls a full r i ++ (if a ≤ nI (ln_bc (i + r.length) s full 0) then [] else [(0, s.2.1, s.2.2)]) := by
  intro r
  induction r with
  | nil =>
    intro i
    rw [List.nil_append, ln_ls, ln_ls, ln_ls, List.append_nil, List.nil_append]
    rfl
  | cons x r ih =>
    intro i
    rw [List.cons_append, ln_ls, ln_ls, ih, List.length_cons, show i + 1 + r.length = i + (r.length + 1) by omega, List.append_assoc]
theorem ln_len_ls (a : Int32) (full : List ln_T) (K : Nat → Nat) (V : Nat → Int32) (n : Nat) : (ln_ls a full (ln_RR K V n) 0).length = ln_cn (fun i => !decide (a ≤ nI (ln_bc i (ln_tr K V i) full 0))) n := by
  induction n with
  | zero => rfl
  | succ n ih =>
    rw [ln_RR_s, ln_ls_app, List.length_append, ih, ln_cn_s, ln_RR_len, Nat.zero_add]
    by_cases h : a ≤ nI (ln_bc n (ln_tr K V n) full 0)
    · simp [h]
    · simp [h]
theorem ln_sm_ls (a : Int32) (full : List ln_T) (K : Nat → Nat) (V : Nat → Int32) (n : Nat) : ln_sm ln_v (ln_ls a full (ln_RR K V n) 0) = ln_ss (fun i => if a ≤ nI (ln_bc i (ln_tr K V i) full 0) then 0 else V i) n := by
  induction n with
  | zero => rfl
  | succ n ih =>
    rw [ln_RR_s, ln_ls_app, ln_sm_app, ih, ln_ss, ln_RR_len, Nat.zero_add]
    by_cases h : a ≤ nI (ln_bc n (ln_tr K V n) full 0)
    · rw [if_pos h, if_pos h]
      rfl
    · rw [if_neg h, if_neg h]
      show _ + (V n + 0) = _
      rw [Int32.add_zero]
/-! in order -/
theorem ln_srt_le {O : List (Nat × Int32)} {i : Nat} {s : Nat × Int32} {x : Int} (hO : ln_srt O) (hs : O[i]? = some s) (h : i < O.countP (fun t => decide (ln_e t ≤ x))) : ln_e s ≤ x := by
  apply Classical.byContradiction
  intro hn
  have h1 : O.countP (fun t => decide (ln_e t ≤ x)) = (O.take i).countP (fun t => decide (ln_e t ≤ x)) + (O.drop i).countP (fun t => decide (ln_e t ≤ x)) := by
    rw [← List.countP_append, List.take_append_drop]
  have h2 : (O.drop i).countP (fun t => decide (ln_e t ≤ x)) = 0 := by
    rw [List.countP_eq_zero]
    intro t ht
    obtain ⟨j, hj⟩ := List.mem_iff_getElem?.mp ht
    rw [List.getElem?_drop] at hj
    have := hO i (i + j) s t (by omega) hs hj
    simp
    omega
  have h3 : (O.take i).countP (fun t => decide (ln_e t ≤ x)) ≤ (O.take i).length := List.countP_le_length
  have h4 : (O.take i).length ≤ i := by rw [List.length_take]; omega
  omega
theorem ln_srt_ge {O : List (Nat × Int32)} {i : Nat} {s : Nat × Int32} {x : Int} (hO : ln_srt O) (hs : O[i]? = some s) (h : O.countP (fun t => decide (ln_e t < x)) ≤ i) : x ≤ ln_e s := by
  apply Classical.byContradiction
  intro hn
  have hi : i < O.length := (List.getElem?_eq_some_iff.mp hs).1
  have h1 : O.countP (fun t => decide (ln_e t < x)) = (O.take (i + 1)).countP (fun t => decide (ln_e t < x)) + (O.drop (i + 1)).countP (fun t => decide (ln_e t < x)) := by
    rw [← List.countP_append, List.take_append_drop]
  have h2 : (O.take (i + 1)).countP (fun t => decide (ln_e t < x)) = (O.take (i + 1)).length := by
    rw [List.countP_eq_length]
    intro t ht
    obtain ⟨j, hj⟩ := List.mem_iff_getElem?.mp ht
    have hj2 : j < (O.take (i + 1)).length := (List.getElem?_eq_some_iff.mp hj).1
    rw [List.length_take] at hj2
    rw [List.getElem?_take_of_lt (by omega)] at hj
    have := hO j i t s (by omega) hj hs
    simp
    omega
  have h4 : (O.take (i + 1)).length = i + 1 := by rw [List.length_take]; omega
  omega
theorem ln_cP (K : Nat → Nat) (V : Nat → Int32) (p : Nat × Int32 → Bool) (n : Nat) : ((ln_RR K V n).map (fun t => t.2)).countP p = ln_cn (fun i => p (K i, V i)) n := by
  induction n with
  | zero => rfl
  | succ n ih =>
    rw [ln_RR_s, List.map_append, List.countP_append, ih, ln_cn_s]
    simp [ln_tr, List.countP_cons]
theorem ln_cn_mono {p q : Nat → Bool} {n : Nat} (h : ∀ i, i < n → p i = true → q i = true) : ln_cn p n ≤ ln_cn q n := by
  induction n with
  | zero => exact Nat.le_refl _
  | succ n ih =>
    have := ih (fun i hi => h i (by omega))
    rw [ln_cn_s, ln_cn_s]
    have hn := h n (by omega)
    cases hp : p n with
    | false => simp; omega
    | true => rw [hn hp]; simp; omega
theorem ln_cn_lt {p q : Nat → Bool} {n k : Nat} (hk : k < n) (h : ∀ i, i < n → p i = true → q i = true) (hpk : p k = false) (hqk : q k = true) : ln_cn p n < ln_cn q n := by
  induction n with
  | zero => exact absurd hk (by omega)
  | succ n ih =>
    rw [ln_cn_s, ln_cn_s]
    have hn := h n (by omega)
    by_cases hkn : k = n
    · subst hkn
      have := ln_cn_mono (n := k) (fun i hi => h i (by omega))
      rw [hpk, hqk]
      simp
      omega
    · have := ih (by omega) (fun i hi => h i (by omega))
      cases hp : p n with
      | false => simp; omega
      | true => rw [hn hp]; simp; omega
theorem ln_pp_e (w u : Int32) (k j : Nat) : ln_pp w u k j = true ↔ ln_e (ln_K w j, ln_V u j) < ln_e (ln_K w k, ln_V u k) ∨ (ln_e (ln_K w j, ln_V u j) = ln_e (ln_K w k, ln_V u k) ∧ j < k) := by
  have h1 := (ln_V u j).toInt_lt
  have h2 := (ln_V u j).le_toInt
  have h3 := (ln_V u k).toInt_lt
  have h4 := (ln_V u k).le_toInt
  unfold ln_pp ln_e
  simp only [Bool.or_eq_true, Bool.and_eq_true, decide_eq_true_eq, beq_iff_eq, Int32.lt_iff_toInt_lt, ← Int32.toInt_inj]
  omega
theorem ln_place_get {w u : Int32} {n k : Nat} {O : List (Nat × Int32)} {s : Nat × Int32} (hk : k < n) (hO : ln_srt O) (hp : O.Perm ((ln_RR (ln_K w) (ln_V u) n).map (fun t => t.2))) (hs : O[ln_cn (ln_pp w u k) n]? = some s) : s = (ln_K w k, ln_V u k) := by
  apply ln_e_eq
  apply Int.le_antisymm
  · refine ln_srt_le hO hs ?_
    rw [hp.countP_eq, ln_cP]
    refine ln_cn_lt hk (fun i hi h => ?_) ?_ ?_
    · have := (ln_pp_e w u k i).mp h
      simp
      omega
    · cases h : ln_pp w u k k with
      | false => rfl
      | true =>
        have := (ln_pp_e w u k k).mp h
        omega
    · simp
  · refine ln_srt_ge hO hs ?_
    rw [hp.countP_eq, ln_cP]
    refine ln_cn_mono (fun i hi h => ?_)
    simp at h
    exact (ln_pp_e w u k i).mpr (Or.inl h)
end
section
/-! the law's plan and its sets -/
def ln_P1 (least : Int32) : Nat → ln_PE
  | 0 => (0, 0, 0, 0)
  | 1 => (2, 0, least, 0)
  | 2 => (6, 0, 0, 0)
  | 3 => (6, 0, 3, 0)
  | 4 => (7, 2, 3, 0)
  | 5 => (8, 0, 0, 0)
  | 6 => (9, 0, 1, 0)
  | 7 => (10, 0, 5, 0)
  | 8 => (11, 0, 0, 0)
  | 9 => (4, 0, 2, 0)
  | 10 => (5, 9, 9, 0)
  | _ => (6, 10, 0, 0)
def ln_F1 (R : List ln_T) (least : Int32) : Nat → List ln_T
  | 0 => R
  | 1 => R.flatMap (ln_st 2 least 0)
  | 2 => ln_rd 15 (ln_hv 0) R
  | 3 => ln_rd 15 (ln_hv 3) R
  | 4 => (ln_rd 15 (ln_hv 0) R).flatMap (fun t => ln_jn t (ln_rd 15 (ln_hv 3) R))
  | 5 => ln_ff 8 15 (fun l => l) R []
  | 6 => ln_ff 9 15 (fun _ => R.flatMap (ln_st 2 least 0)) R []
  | 7 => ln_ls 5 R R 0
  | 8 => R.flatMap (ln_st 11 0 0)
  | 9 => R.flatMap (List.replicate 2)
  | 10 => R.flatMap (List.replicate 2) ++ R.flatMap (List.replicate 2)
  | _ => ln_rd 15 (ln_hv 0) (R.flatMap (List.replicate 2) ++ R.flatMap (List.replicate 2))
def ln_P2 (least : Int32) (d : Nat) : ln_PE := if d < 11 then ln_P1 least d else (1, 0, 0, nI d)
def ln_F2 (R : List ln_T) (least : Int32) (d : Nat) : List ln_T := if d < 11 then ln_F1 R least d else R.flatMap (ln_st 1 0 (nI d))
def ln_bd (l : List ln_T) : Prop := ∀ t, t ∈ l → t.1 < 4 ∧ t.2.1 < 16
theorem ln_bd_st {k : Nat} {a b : Int32} {l : List ln_T} (h : ln_bd l) : ln_bd (l.flatMap (ln_st k a b)) := by
  intro s hs
  obtain ⟨t, ht, h2⟩ := List.mem_flatMap.mp hs
  have h3 := h t ht
  refine ⟨by rw [ln_st_part t s h2]; exact h3.1, ?_⟩
  unfold ln_st at h2
  split at h2
  · split at h2
    · simp at h2
    · rw [List.mem_singleton.mp h2]; exact h3.2
  · split at h2
    · rw [List.mem_singleton.mp h2]; exact h3.2
    · rw [List.mem_singleton.mp h2]
      obtain ⟨j, j1, j2⟩ := pk_andE t.2.2 (m := 15) 4 (by decide)
      show (t.2.2 &&& 15).toNatClampNeg < 16
      rw [j2, nI_clamp (by omega)]
      exact j1
theorem ln_bd_rep {n : Nat} {l : List ln_T} (h : ln_bd l) : ln_bd (l.flatMap (List.replicate n)) := by
  intro s hs
  obtain ⟨t, ht, h2⟩ := List.mem_flatMap.mp hs
  rw [(List.mem_replicate.mp h2).2]
  exact h t ht
theorem ln_bd_app {l r : List ln_T} (h : ln_bd l) (h2 : ln_bd r) : ln_bd (l ++ r) := by
  intro s hs
  rcases List.mem_append.mp hs with h' | h'
  · exact h s h'
  · exact h2 s h'
theorem ln_rd_p {f : ln_T → Int32} {M : List ln_T} : ∀ s, s ∈ ln_rd 15 f M → s.1 = s.2.1 % 4 ∧ s.2.1 < 16 := by
  intro s hs
  refine ⟨ln_rd4 s hs, ?_⟩
  rw [ln_rd_rg] at hs
  obtain ⟨k, hk, h2⟩ := List.mem_flatMap.mp hs
  rw [ln_rk_key k s h2]
  exact List.mem_range.mp hk
theorem ln_bd_rd {f : ln_T → Int32} {M : List ln_T} : ln_bd (ln_rd 15 f M) := fun s hs => ⟨by rw [(ln_rd_p s hs).1]; exact Nat.mod_lt _ (by decide), (ln_rd_p s hs).2⟩
theorem ln_bd_jn {l r : List ln_T} (h : ln_bd l) : ln_bd (l.flatMap (fun t => ln_jn t r)) := by
  intro s hs
  obtain ⟨t, ht, h2⟩ := List.mem_flatMap.mp hs
  refine ⟨by rw [ln_jn_part t s h2]; exact Nat.mod_lt _ (by decide), ?_⟩
  unfold ln_jn at h2
  obtain ⟨x, _, e⟩ := List.mem_map.mp h2
  rw [← e]
  exact (h t ht).2
theorem ln_bd_ff {k m : Nat} {oth : List ln_T → List ln_T} : ∀ r l : List ln_T, ln_bd r → ln_bd l → ln_bd (ln_ff k m oth r l) := by
  intro r
  induction r with
  | nil => intro l _ h; exact h
  | cons t r ih =>
    intro l hr hl
    have hr' : ln_bd r := fun s hs => hr s (List.mem_cons_of_mem _ hs)
    rw [ln_ff]
    split
    · refine ih _ hr' (ln_bd_app hl (fun s hs => ?_))
      rw [List.mem_singleton.mp hs]
      exact ⟨Nat.mod_lt _ (by decide), (hr t List.mem_cons_self).2⟩
    · exact ih l hr' hl
theorem ln_bd_ls {a : Int32} {full : List ln_T} : ∀ (r : List ln_T) (i : Nat), ln_bd r → ln_bd (ln_ls a full r i) := by
  intro r
  induction r with
  | nil => intro i _ s hs; simp [ln_ls] at hs
  | cons t r ih =>
    intro i hr
    have hr' : ln_bd r := fun s hs => hr s (List.mem_cons_of_mem _ hs)
    rw [ln_ls]
    refine ln_bd_app (fun s hs => ?_) (ih _ hr')
    split at hs
    · simp at hs
    · rw [List.mem_singleton.mp hs]
      exact ⟨(by decide : (0 : Nat) < 4), (hr t List.mem_cons_self).2⟩
theorem ln_bd_F1 {R : List ln_T} (hR : ln_bd R) (least : Int32) (d : Nat) : ln_bd (ln_F1 R least d) := by
  unfold ln_F1
  split
  · exact hR
  · exact ln_bd_st hR
  · exact ln_bd_rd
  · exact ln_bd_rd
  · exact ln_bd_jn ln_bd_rd
  · exact ln_bd_ff _ _ hR (fun s hs => by simp at hs)
  · exact ln_bd_ff _ _ hR (fun s hs => by simp at hs)
  · exact ln_bd_ls _ _ hR
  · exact ln_bd_st hR
  · exact ln_bd_rep hR
  · exact ln_bd_app (ln_bd_rep hR) (ln_bd_rep hR)
  · exact ln_bd_rd
theorem ln_d12 {d : Nat} (h : d < 12) : d = 0 ∨ d = 1 ∨ d = 2 ∨ d = 3 ∨ d = 4 ∨ d = 5 ∨ d = 6 ∨ d = 7 ∨ d = 8 ∨ d = 9 ∨ d = 10 ∨ d = 11 := by omega
def ln_wfd (P : Nat → ln_PE) (d : Nat) : Prop := (P d).1 ≤ 11 ∧ (P d).1 ≠ 3 ∧ (d ≠ 0 → (P d).1 ≠ 0 ∧ (P d).2.1 < d) ∧ (ln_two (P d).1 = true → ln_ya P d < d ∧ (P d).2.2.1 = nI (ln_ya P d)) ∧ (ln_stp (P d).1 = true → (P d).2.1 = 0)
theorem ln_no {b : Bool} {A : Prop} (h : b = false) (h2 : b = true) : A := by
  rw [h] at h2
  exact absurd h2 (by decide)
theorem ln_wf1d (least : Int32) {d : Nat} (h : d < 12) : ln_wfd (ln_P1 least) d := by
  unfold ln_wfd
  rcases ln_d12 h with e | e | e | e | e | e | e | e | e | e | e | e <;> subst e
  · exact ⟨(by decide : (0 : Nat) ≤ 11), (by decide : (0 : Nat) ≠ 3), fun h => absurd rfl h, fun z => ln_no rfl z, fun z => ln_no rfl z⟩
  · exact ⟨(by decide : (2 : Nat) ≤ 11), (by decide : (2 : Nat) ≠ 3), fun _ => ⟨(by decide : (2 : Nat) ≠ 0), (by decide : (0 : Nat) < 1)⟩, fun z => ln_no rfl z, fun _ => rfl⟩
  · exact ⟨(by decide : (6 : Nat) ≤ 11), (by decide : (6 : Nat) ≠ 3), fun _ => ⟨(by decide : (6 : Nat) ≠ 0), (by decide : (0 : Nat) < 2)⟩, fun z => ln_no rfl z, fun z => ln_no rfl z⟩
  · exact ⟨(by decide : (6 : Nat) ≤ 11), (by decide : (6 : Nat) ≠ 3), fun _ => ⟨(by decide : (6 : Nat) ≠ 0), (by decide : (0 : Nat) < 3)⟩, fun z => ln_no rfl z, fun z => ln_no rfl z⟩
  · exact ⟨(by decide : (7 : Nat) ≤ 11), (by decide : (7 : Nat) ≠ 3), fun _ => ⟨(by decide : (7 : Nat) ≠ 0), (by decide : (2 : Nat) < 4)⟩, fun _ => ⟨(by decide : (3 : Nat) < 4), rfl⟩, fun z => ln_no rfl z⟩
  · exact ⟨(by decide : (8 : Nat) ≤ 11), (by decide : (8 : Nat) ≠ 3), fun _ => ⟨(by decide : (8 : Nat) ≠ 0), (by decide : (0 : Nat) < 5)⟩, fun z => ln_no rfl z, fun z => ln_no rfl z⟩
  · exact ⟨(by decide : (9 : Nat) ≤ 11), (by decide : (9 : Nat) ≠ 3), fun _ => ⟨(by decide : (9 : Nat) ≠ 0), (by decide : (0 : Nat) < 6)⟩, fun _ => ⟨(by decide : (1 : Nat) < 6), rfl⟩, fun z => ln_no rfl z⟩
  · exact ⟨(by decide : (10 : Nat) ≤ 11), (by decide : (10 : Nat) ≠ 3), fun _ => ⟨(by decide : (10 : Nat) ≠ 0), (by decide : (0 : Nat) < 7)⟩, fun z => ln_no rfl z, fun z => ln_no rfl z⟩
  · exact ⟨(by decide : (11 : Nat) ≤ 11), (by decide : (11 : Nat) ≠ 3), fun _ => ⟨(by decide : (11 : Nat) ≠ 0), (by decide : (0 : Nat) < 8)⟩, fun z => ln_no rfl z, fun _ => rfl⟩
  · exact ⟨(by decide : (4 : Nat) ≤ 11), (by decide : (4 : Nat) ≠ 3), fun _ => ⟨(by decide : (4 : Nat) ≠ 0), (by decide : (0 : Nat) < 9)⟩, fun z => ln_no rfl z, fun z => ln_no rfl z⟩
  · exact ⟨(by decide : (5 : Nat) ≤ 11), (by decide : (5 : Nat) ≠ 3), fun _ => ⟨(by decide : (5 : Nat) ≠ 0), (by decide : (9 : Nat) < 10)⟩, fun _ => ⟨(by decide : (9 : Nat) < 10), rfl⟩, fun z => ln_no rfl z⟩
  · exact ⟨(by decide : (6 : Nat) ≤ 11), (by decide : (6 : Nat) ≠ 3), fun _ => ⟨(by decide : (6 : Nat) ≠ 0), (by decide : (10 : Nat) < 11)⟩, fun z => ln_no rfl z, fun z => ln_no rfl z⟩
theorem ln_wf1 (least : Int32) : ln_wf (ln_P1 least) 12 := ⟨by decide, by decide, rfl, fun _ h => ln_wf1d least h⟩
theorem ln_P2_lo (least : Int32) {d : Nat} (h : d < 11) : ln_P2 least d = ln_P1 least d := if_pos h
theorem ln_P2_hi (least : Int32) {d : Nat} (h : 11 ≤ d) : ln_P2 least d = (1, 0, 0, nI d) := if_neg (by omega)
theorem ln_F2_lo (R : List ln_T) (least : Int32) {d : Nat} (h : d < 11) : ln_F2 R least d = ln_F1 R least d := if_pos h
theorem ln_F2_hi (R : List ln_T) (least : Int32) {d : Nat} (h : 11 ≤ d) : ln_F2 R least d = R.flatMap (ln_st 1 0 (nI d)) := if_neg (by omega)
theorem ln_wf2 (least : Int32) {S : Nat} (hS : S ≤ 16) (h0 : 0 < S) : ln_wf (ln_P2 least) S := by
  refine ⟨hS, h0, rfl, fun d hd => ?_⟩
  by_cases h : d < 11
  · have := ln_wf1d least (show d < 12 by omega)
    unfold ln_wfd ln_ya at this
    unfold ln_ya
    rw [ln_P2_lo least h]
    exact this
  · unfold ln_ya
    rw [ln_P2_hi least (by omega)]
    exact ⟨(by decide : (1 : Nat) ≤ 11), (by decide : (1 : Nat) ≠ 3), fun h => ⟨(by decide : (1 : Nat) ≠ 0), (show 0 < d by omega)⟩, fun z => ln_no rfl z, fun _ => rfl⟩
def ln_famd (R : List ln_T) (P : Nat → ln_PE) (F : Nat → List ln_T) (d : Nat) : Prop := F d = ln_sem R (P d) F ∧ (∀ t, t ∈ F d → t.1 < 4 ∧ t.2.1 < 16) ∧
    ((P d).1 = 4 → ∃ tm, tm < 100 ∧ (P d).2.2.1 = nI tm) ∧ ((P d).1 = 6 → ¬ (P d).2.2.1 = 1 ∧ ¬ (P d).2.2.1 = 2) ∧
    ((P d).1 = 7 → (∀ t, t ∈ F (P d).2.1 → t.1 = t.2.1 % 4) ∧ (∀ t, t ∈ F (ln_ya P d) → t.1 = t.2.1 % 4)) ∧
    ((P d).1 = 8 ∨ (P d).1 = 9 ∨ (P d).1 = 10 → (P d).2.1 = 0)
theorem ln_k4 {k : Nat} {A : Prop} (h : k ≠ 4) : k = 4 → A := fun z => absurd z h
theorem ln_k6 {k : Nat} {A : Prop} (h : k ≠ 6) : k = 6 → A := fun z => absurd z h
theorem ln_k7 {k : Nat} {A : Prop} (h : k ≠ 7) : k = 7 → A := fun z => absurd z h
theorem ln_fam1d {R : List ln_T} (hR : ln_bd R) (least : Int32) {d : Nat} (h : d < 12) : ln_famd R (ln_P1 least) (ln_F1 R least) d := by
  have hb := ln_bd_F1 hR least
  unfold ln_famd
  rcases ln_d12 h with e | e | e | e | e | e | e | e | e | e | e | e <;> subst e
  · exact ⟨by rw [ln_sem0 rfl]; rfl, hb 0, ln_k4 (k := 0) (by decide), ln_k6 (k := 0) (by decide), ln_k7 (k := 0) (by decide), fun _ => rfl⟩
  · exact ⟨by rw [ln_semS (Or.inr (Or.inl rfl))]; rfl, hb 1, ln_k4 (k := 2) (by decide), ln_k6 (k := 2) (by decide), ln_k7 (k := 2) (by decide), fun _ => rfl⟩
  · exact ⟨by rw [ln_sem6 rfl]; rfl, hb 2, ln_k4 (k := 6) (by decide), fun _ => ⟨(by decide : ¬ (0 : Int32) = 1), (by decide : ¬ (0 : Int32) = 2)⟩, ln_k7 (k := 6) (by decide), fun _ => rfl⟩
  · exact ⟨by rw [ln_sem6 rfl]; rfl, hb 3, ln_k4 (k := 6) (by decide), fun _ => ⟨(by decide : ¬ (3 : Int32) = 1), (by decide : ¬ (3 : Int32) = 2)⟩, ln_k7 (k := 6) (by decide), fun _ => rfl⟩
  · exact ⟨by rw [ln_sem7 rfl]; rfl, hb 4, ln_k4 (k := 7) (by decide), ln_k6 (k := 7) (by decide), fun _ => ⟨fun t ht => (ln_rd_p t ht).1, fun t ht => (ln_rd_p t ht).1⟩, fun z => absurd z (by decide : ¬ ((7 : Nat) = 8 ∨ (7 : Nat) = 9 ∨ (7 : Nat) = 10))⟩
  · exact ⟨by rw [ln_sem8 rfl]; rfl, hb 5, ln_k4 (k := 8) (by decide), ln_k6 (k := 8) (by decide), ln_k7 (k := 8) (by decide), fun _ => rfl⟩
  · exact ⟨by rw [ln_sem9 rfl]; rfl, hb 6, ln_k4 (k := 9) (by decide), ln_k6 (k := 9) (by decide), ln_k7 (k := 9) (by decide), fun _ => rfl⟩
  · exact ⟨by rw [ln_sem10 rfl]; rfl, hb 7, ln_k4 (k := 10) (by decide), ln_k6 (k := 10) (by decide), ln_k7 (k := 10) (by decide), fun _ => rfl⟩
  · exact ⟨by rw [ln_semS (Or.inr (Or.inr rfl))]; rfl, hb 8, ln_k4 (k := 11) (by decide), ln_k6 (k := 11) (by decide), ln_k7 (k := 11) (by decide), fun _ => rfl⟩
  · exact ⟨by rw [ln_sem4 rfl]; rfl, hb 9, fun _ => ⟨2, by decide, rfl⟩, ln_k6 (k := 4) (by decide), ln_k7 (k := 4) (by decide), fun _ => rfl⟩
  · exact ⟨by rw [ln_sem5 rfl]; rfl, hb 10, ln_k4 (k := 5) (by decide), ln_k6 (k := 5) (by decide), ln_k7 (k := 5) (by decide), fun z => absurd z (by decide : ¬ ((5 : Nat) = 8 ∨ (5 : Nat) = 9 ∨ (5 : Nat) = 10))⟩
  · exact ⟨by rw [ln_sem6 rfl]; rfl, hb 11, ln_k4 (k := 6) (by decide), fun _ => ⟨(by decide : ¬ (0 : Int32) = 1), (by decide : ¬ (0 : Int32) = 2)⟩, ln_k7 (k := 6) (by decide), fun z => absurd z (by decide : ¬ ((6 : Nat) = 8 ∨ (6 : Nat) = 9 ∨ (6 : Nat) = 10))⟩
theorem ln_fam1 {R : List ln_T} (hR : ln_bd R) (least : Int32) : ln_fam R (ln_P1 least) (ln_F1 R least) 12 := fun _ h => ln_fam1d hR least h
/-- what a set is made of lies below it: sets of the second plan below 11 are those of the first -/
theorem ln_sem_c {R : List ln_T} {P : Nat → ln_PE} {F G : Nat → List ln_T} {d : Nat} (hx : G (P d).2.1 = F (P d).2.1) (hy : ln_two (P d).1 = true → G (ln_ya P d) = F (ln_ya P d)) : ln_sem R (P d) G = ln_sem R (P d) F := by
  unfold ln_ya at hy
  unfold ln_sem
  rw [hx]
  split
  · rfl
  · split
    · rfl
    · split
      · rename_i h
        rw [hy (by rw [h]; rfl)]
      · split
        · rfl
        · split
          · rename_i h
            rw [hy (by rw [h]; rfl)]
          · split
            · rfl
            · split
              · rename_i h
                rw [hy (by rw [h]; rfl)]
              · rfl
theorem ln_fam2 {R : List ln_T} (hR : ln_bd R) (least : Int32) {S : Nat} : ln_fam R (ln_P2 least) (ln_F2 R least) S := by
  intro d hd
  by_cases h : d < 11
  · obtain ⟨f1, f2, f3, f4, f5, f6⟩ := ln_fam1d hR least (show d < 12 by omega)
    obtain ⟨w1, w2, w3, w4, w5⟩ := ln_wf1d least (show d < 12 by omega)
    have hx : (ln_P1 least d).2.1 < 11 := by
      by_cases h0 : d = 0
      · subst h0; exact (by decide : (0 : Nat) < 11)
      · have := (w3 h0).2; omega
    have hy : ln_two (ln_P1 least d).1 = true → ln_ya (ln_P1 least) d < 11 := fun z => by have := (w4 z).1; omega
    have ey : ln_ya (ln_P2 least) d = ln_ya (ln_P1 least) d := by unfold ln_ya; rw [ln_P2_lo least h]
    have es : ln_sem R (ln_P1 least d) (ln_F2 R least) = ln_sem R (ln_P1 least d) (ln_F1 R least) := ln_sem_c (P := ln_P1 least) (ln_F2_lo R least hx) (fun z => ln_F2_lo R least (hy z))
    rw [ey, ln_P2_lo least h, ln_F2_lo R least h, es]
    refine ⟨f1, f2, f3, f4, fun z => ?_, f6⟩
    rw [ln_F2_lo R least hx, ln_F2_lo R least (hy (by rw [z]; rfl))]
    exact f5 z
  · have h11 : 11 ≤ d := by omega
    rw [ln_P2_hi least h11, ln_F2_hi R least h11]
    refine ⟨?_, ln_bd_st hR, ln_k4 (k := 1) (by decide), ln_k6 (k := 1) (by decide), ln_k7 (k := 1) (by decide), fun _ => rfl⟩
    rw [ln_semS (Or.inl rfl)]
    rfl
end
section
/-! the answers, in the law's words -/
section
variable (w u least : Int32) (n : Nat)
def ln_LR : List ln_T := ln_RR (ln_K w) (ln_V u) n
def ln_LF : Nat → List ln_T := ln_F1 (ln_LR w u n) least
def ln_kc (k : Nat) : Bool := !(ln_cn (ln_hp w u k (-1000)) n == 0)
def ln_su (k : Nat) : Int32 := ln_ss (ln_sv w u k) n
def ln_mo (k : Nat) : Bool := !decide (ln_V u k < least)
def ln_on (k : Nat) : Bool := ln_cn (ln_ag w u k) k == 0
def ln_lo (k : Nat) : Bool := ln_cn (ln_hp w u (ln_K w k) least) n == 0
def ln_la (k : Nat) : Bool := !decide (5 ≤ ln_cn (ln_bp w u k) n)
theorem ln_hp_c (hn : n ≤ 24) (k : Nat) : ln_cn (ln_hp w u k (-1000)) n = ln_cn (fun i => ln_K w i == k) n := by
  apply ln_cn_c
  intro i hi
  simp [ln_hp, ln_V_ge u (show i < 1000 by omega)]
theorem ln_flk (k : Nat) : ((ln_LR w u n).filter (ln_ky k)).length = ln_cn (fun i => ln_K w i == k) n := ln_len_fl _ _ _ _
theorem ln_ne_kc (hn : n ≤ 24) (k : Nat) : ln_ne (ln_LR w u n) k = ln_kc w u n k := by
  unfold ln_ne ln_kc
  rw [ln_hp_c w u n hn k, ← ln_flk]
  cases h : (ln_LR w u n).filter (ln_ky k) <;> simp
theorem ln_lk0 (k : Nat) : ln_sm ln_v ((ln_LR w u n).filter (ln_ky k)) = ln_su w u n k := by
  unfold ln_LR ln_su
  rw [ln_sm_fl]
  apply ln_ss_c
  intro i _
  unfold ln_sv ln_ky ln_tr ln_v
  simp
theorem ln_a1 : (ln_LF w u least n 1).length = ln_cn (ln_mo u least) n := by
  show ((ln_RR (ln_K w) (ln_V u) n).flatMap (ln_st 2 least 0)).length = _
  rw [ln_len_fm]
  unfold ln_cn
  apply ln_nn_c
  intro i _
  unfold ln_mo ln_st ln_tr
  by_cases h : ln_V u i < least <;> simp [h]
theorem ln_a2 (hn : n ≤ 24) : (ln_LF w u least n 2).length = ln_cn (ln_kc w u n) 16 := by
  show (ln_rd 15 (ln_hv 0) (ln_LR w u n)).length = _
  rw [ln_rd_lenE]
  exact ln_cn_c (fun k _ => ln_ne_kc w u n hn k)
theorem ln_a4 (hn : n ≤ 24) : (ln_LF w u least n 4).length = ln_cn (ln_kc w u n) 16 := by
  show ((ln_rd 15 (ln_hv 0) (ln_LR w u n)).flatMap (fun t => ln_jn t (ln_rd 15 (ln_hv 3) (ln_LR w u n)))).length = _
  rw [ln_jk_eq, ln_jk_len]
  exact ln_cn_c (fun k _ => ln_ne_kc w u n hn k)
theorem ln_a5 : (ln_LF w u least n 5).length = ln_cn (ln_on w u) n := by
  show (ln_ff 8 15 (fun l => l) (ln_RR (ln_K w) (ln_V u) n) []).length = _
  rw [ln_len_one]
  rfl
theorem ln_a6 : (ln_LF w u least n 6).length = ln_cn (ln_lo w u least n) n := by
  show (ln_ff 9 15 (fun _ => (ln_RR (ln_K w) (ln_V u) n).flatMap (ln_st 2 least 0)) (ln_RR (ln_K w) (ln_V u) n) []).length = _
  rw [ln_len_wo]
  apply ln_cn_c
  intro k _
  unfold ln_lo
  rw [Bool.eq_iff_iff, Bool.not_eq_true', beq_iff_eq, ln_cn_0]
  constructor
  · intro h j hj
    cases hh : ln_hp w u (ln_K w k) least j with
    | false => rfl
    | true =>
      simp [ln_hp] at hh
      have : ((ln_RR (ln_K w) (ln_V u) n).flatMap (ln_st 2 least 0)).any (ln_hit 9 (ln_tr (ln_K w) (ln_V u) k)) = true := by
        rw [List.any_eq_true]
        refine ⟨ln_tr (ln_K w) (ln_V u) j, List.mem_flatMap.mpr ⟨ln_tr (ln_K w) (ln_V u) j, ln_RR_mem.mpr ⟨j, hj, rfl⟩, ?_⟩, ?_⟩
        · unfold ln_st
          rw [if_pos rfl, if_neg (show ¬ (ln_tr (ln_K w) (ln_V u) j).2.2 < least from ln_i32le hh.2)]
          exact List.mem_singleton.mpr rfl
        · simp [ln_hit, ln_tr, hh.1]
      rw [h] at this
      exact absurd this (by decide)
  · intro h
    cases hh : ((ln_RR (ln_K w) (ln_V u) n).flatMap (ln_st 2 least 0)).any (ln_hit 9 (ln_tr (ln_K w) (ln_V u) k)) with
    | false => rfl
    | true =>
      obtain ⟨s, hs, h2⟩ := List.any_eq_true.mp hh
      obtain ⟨t, ht, h3⟩ := List.mem_flatMap.mp hs
      obtain ⟨j, hj, e⟩ := ln_RR_mem.mp ht
      unfold ln_st at h3
      rw [if_pos rfl] at h3
      split at h3
      · simp at h3
      · rename_i hv
        have e2 := List.mem_singleton.mp h3
        subst e2
        subst e
        have h4 := h j hj
        simp [ln_hit, ln_tr] at h2
        simp only [ln_tr] at hv
        simp [ln_hp, h2, hv] at h4
theorem ln_cb_bp (i j : Nat) : ln_cb i (ln_tr (ln_K w) (ln_V u) i) j (ln_tr (ln_K w) (ln_V u) j) = ln_bp w u i j := rfl
theorem ln_bcE (i : Nat) : ln_bc i (ln_tr (ln_K w) (ln_V u) i) (ln_LR w u n) 0 = ln_cn (ln_bp w u i) n := by
  unfold ln_LR
  rw [ln_bc_cn]
  exact ln_cn_c (fun j _ => ln_cb_bp w u i j)
theorem ln_5le (hn : n ≤ 24) (i : Nat) : ((5 : Int32) ≤ nI (ln_cn (ln_bp w u i) n)) ↔ 5 ≤ ln_cn (ln_bp w u i) n := by
  have := ln_cn_le (ln_bp w u i) n
  exact nI_leI (a := 5) (by decide) (by omega)
theorem ln_a7 (hn : n ≤ 24) : (ln_LF w u least n 7).length = ln_cn (ln_la w u n) n := by
  show (ln_ls 5 (ln_LR w u n) (ln_RR (ln_K w) (ln_V u) n) 0).length = _
  rw [ln_len_ls]
  apply ln_cn_c
  intro i _
  unfold ln_la
  rw [ln_bcE]
  simp only [ln_5le w u n hn i]
theorem ln_t7 (hn : n ≤ 24) : ln_sm ln_v (ln_LF w u least n 7) = ln_ss (fun k => if ln_la w u n k = true then ln_V u k else 0) n := by
  show ln_sm ln_v (ln_ls 5 (ln_LR w u n) (ln_RR (ln_K w) (ln_V u) n) 0) = _
  rw [ln_sm_ls]
  apply ln_ss_c
  intro i _
  unfold ln_la
  rw [ln_bcE]
  simp only [ln_5le w u n hn i]
  by_cases h : 5 ≤ ln_cn (ln_bp w u i) n <;> simp [h]
theorem ln_a8 : (ln_LF w u least n 8).length = n := by
  show ((ln_RR (ln_K w) (ln_V u) n).flatMap (ln_st 11 0 0)).length = _
  rw [ln_len_fm, ln_nn_c (f := fun i => (ln_st 11 0 0 (ln_tr (ln_K w) (ln_V u) i)).length) (g := fun _ => 1) (fun i _ => rfl), ln_nn_k, Nat.one_mul]
theorem ln_a9 : (ln_LF w u least n 9).length = 2 * n := by
  show ((ln_RR (ln_K w) (ln_V u) n).flatMap (List.replicate 2)).length = _
  rw [ln_len_fm, ln_nn_c (f := fun i => (List.replicate 2 (ln_tr (ln_K w) (ln_V u) i)).length) (g := fun _ => 2) (fun i _ => rfl), ln_nn_k]
theorem ln_a10 : (ln_LF w u least n 10).length = 4 * n := by
  show (ln_LF w u least n 9 ++ ln_LF w u least n 9).length = _
  rw [List.length_append, ln_a9]
  omega
theorem ln_rep_fl (l : List ln_T) (k : Nat) : (l.flatMap (List.replicate 2)).filter (ln_ky k) = (l.filter (ln_ky k)).flatMap (List.replicate 2) := by
  induction l with
  | nil => rfl
  | cons t l ih =>
    rw [List.flatMap_cons, List.filter_append, ih]
    cases h : ln_ky k t with
    | true =>
      rw [List.filter_cons_of_pos h, List.flatMap_cons, ln_fself (fun s hs => by rw [(List.mem_replicate.mp hs).2]; exact h)]
    | false =>
      rw [List.filter_cons_of_neg (by rw [h]; decide), ln_fnil (fun s hs => by rw [(List.mem_replicate.mp hs).2]; exact h), List.nil_append]
theorem ln_rep_sm (l : List ln_T) : ln_sm ln_v (l.flatMap (List.replicate 2)) = 2 * ln_sm ln_v l := by
  induction l with
  | nil => rfl
  | cons t l ih =>
    rw [List.flatMap_cons, ln_sm_app, ih]
    show ln_v t + (ln_v t + 0) + 2 * ln_sm ln_v l = 2 * (ln_v t + ln_sm ln_v l)
    grind
theorem ln_lk9 (k : Nat) : ln_sm ln_v ((ln_LF w u least n 9).filter (ln_ky k)) = 2 * ln_su w u n k := by
  show ln_sm ln_v (((ln_LR w u n).flatMap (List.replicate 2)).filter (ln_ky k)) = _
  rw [ln_rep_fl, ln_rep_sm, ln_lk0]
theorem ln_lk2 {k : Nat} (hk : k < 16) : ln_sm ln_v ((ln_LF w u least n 2).filter (ln_ky k)) = ln_su w u n k := by
  show ln_sm ln_v ((ln_rd 15 (ln_hv 0) (ln_LR w u n)).filter (ln_ky k)) = _
  rw [ln_rd_lk _ _ hk, ln_sm_v, ln_lk0]
theorem ln_lk3 (hn : n ≤ 24) {k : Nat} (hk : k < 16) : ln_sm ln_v ((ln_LF w u least n 3).filter (ln_ky k)) = nI (ln_cn (ln_hp w u k (-1000)) n) := by
  show ln_sm ln_v ((ln_rd 15 (ln_hv 3) (ln_LR w u n)).filter (ln_ky k)) = _
  rw [ln_rd_lk _ _ hk, ln_sm_one, ln_flk, ln_hp_c w u n hn]
theorem ln_lk4 (hn : n ≤ 24) {k : Nat} (hk : k < 16) : ln_sm ln_v ((ln_LF w u least n 4).filter (ln_ky k)) = ln_su w u n k + nI (ln_cn (ln_hp w u k (-1000)) n) := by
  show ln_sm ln_v (((ln_rd 15 (ln_hv 0) (ln_LR w u n)).flatMap (fun t => ln_jn t (ln_rd 15 (ln_hv 3) (ln_LR w u n)))).filter (ln_ky k)) = _
  rw [ln_jk_eq, ln_jk_lk _ _ _ hk, ln_sm_v, ln_lk0, ln_sm_one, ln_flk, ln_hp_c w u n hn]
theorem ln_t2 : ln_sm ln_v (ln_LF w u least n 2) = ln_ss (ln_su w u n) 16 := by
  show ln_sm ln_v (ln_rd 15 (ln_hv 0) (ln_LR w u n)) = _
  rw [ln_rd_smE]
  exact ln_ss_c (fun k _ => by rw [ln_sm_v, ln_lk0])
theorem ln_t3 : ln_sm ln_v (ln_LF w u least n 3) = nI n := by
  show ln_sm ln_v (ln_rd 15 (ln_hv 3) (ln_LR w u n)) = _
  rw [ln_rd_smE, ln_ss_c (g := fun k => nI (ln_cn (fun i => ln_K w i == k) n)) (fun k _ => by rw [ln_sm_one, ln_flk]), ln_ss_nI, ln_nn_dbl (fun i => (ln_K_e w i).2)]
theorem ln_a11 (hn : n ≤ 24) : (ln_LF w u least n 11).length = ln_cn (ln_kc w u n) 16 := by
  show (ln_rd 15 (ln_hv 0) (ln_LF w u least n 10)).length = _
  rw [ln_rd_lenE]
  apply ln_cn_c
  intro k _
  rw [← ln_ne_kc w u n hn k]
  show ln_ne ((ln_LR w u n).flatMap (List.replicate 2) ++ (ln_LR w u n).flatMap (List.replicate 2)) k = _
  unfold ln_ne
  rw [List.filter_append, ln_rep_fl]
  cases h : (ln_LR w u n).filter (ln_ky k) with
  | nil => rfl
  | cons t l => rfl
theorem ln_t11 : ln_sm ln_v (ln_LF w u least n 11) = 4 * ln_ss (ln_su w u n) 16 := by
  show ln_sm ln_v (ln_rd 15 (ln_hv 0) (ln_LF w u least n 10)) = _
  rw [ln_rd_smE, ← ln_ss_mul]
  apply ln_ss_c
  intro k _
  show ln_sm (ln_hv 0) ((ln_LF w u least n 9 ++ ln_LF w u least n 9).filter (ln_ky k)) = _
  rw [ln_sm_v, List.filter_append, ln_sm_app, ln_lk9]
  grind
theorem ln_tS (d : Nat) : ln_sm ln_v ((ln_LR w u n).flatMap (ln_st 1 0 (nI d))) = nI d * nI n := by
  unfold ln_LR
  rw [ln_sm_fm, ln_ss_c (g := fun _ => nI d) (fun i _ => by
    show ((ln_V u i) * 0 + nI d) + 0 = nI d
    grind)]
  induction n with
  | zero =>
    show (0 : Int32) = nI d * nI 0
    rw [pk_mul, Nat.mul_zero]
    rfl
  | succ n ih =>
    rw [ln_ss, ih, nI_succ]
    grind
theorem ln_LRbd : ln_bd (ln_LR w u n) := by
  intro t ht
  obtain ⟨i, hi, e⟩ := ln_RR_mem.mp ht
  subst e
  exact ⟨Nat.mod_lt _ (by decide), (ln_K_e w i).2⟩
theorem ln_LRlen : (ln_LR w u n).length = n := ln_RR_len _ _ _
theorem ln_fits (hn : n ≤ 24) {d : Nat} (hd : d < 12) (h10 : d ≠ 10) : (ln_LF w u least n d).length ≤ 48 := by
  have c1 := ln_cn_le (ln_mo u least) n
  have c2 := ln_cn_le (ln_kc w u n) 16
  have c5 := ln_cn_le (ln_on w u) n
  have c6 := ln_cn_le (ln_lo w u least n) n
  have c7 := ln_cn_le (ln_la w u n) n
  rcases ln_d12 hd with e | e | e | e | e | e | e | e | e | e | e | e <;> subst e
  · have := ln_LRlen w u n
    show (ln_LR w u n).length ≤ 48
    omega
  · rw [ln_a1]; omega
  · rw [ln_a2 w u least n hn]; omega
  · show (ln_rd 15 (ln_hv 3) (ln_LR w u n)).length ≤ 48
    have := ln_rd_len 15 (ln_hv 3) (ln_LR w u n)
    omega
  · rw [ln_a4 w u least n hn]; omega
  · rw [ln_a5]; omega
  · rw [ln_a6]; omega
  · rw [ln_a7 w u least n hn]; omega
  · rw [ln_a8]; omega
  · rw [ln_a9]; omega
  · exact absurd rfl h10
  · rw [ln_a11 w u least n hn]; omega
/-- the first key of the union of copies is the first key of the rows -/
theorem ln_first {O A : List (Nat × Int32)} {s t : Nat × Int32} (hO : ln_srt O) (hA : ln_srt A) (pO : O.Perm ((ln_LF w u least n 10).map (fun t => t.2))) (pA : A.Perm ((ln_LF w u least n 0).map (fun t => t.2))) (hs : O[0]? = some s) (ht : A[0]? = some t) : s.1 = t.1 := by
  have m1 : ∀ x, x ∈ (ln_LF w u least n 10).map (fun t => t.2) ↔ x ∈ (ln_LF w u least n 0).map (fun t => t.2) := by
    intro x
    rw [List.mem_map, List.mem_map]
    constructor
    · rintro ⟨y, h1, h2⟩
      have h3 : y ∈ (ln_LR w u n).flatMap (List.replicate 2) := by
        rcases List.mem_append.mp h1 with h | h
        · exact h
        · exact h
      obtain ⟨z, h4, h5⟩ := List.mem_flatMap.mp h3
      rw [(List.mem_replicate.mp h5).2] at h2
      exact ⟨z, h4, h2⟩
    · rintro ⟨y, h1, h2⟩
      refine ⟨y, List.mem_append.mpr (Or.inl (List.mem_flatMap.mpr ⟨y, h1, ?_⟩)), h2⟩
      exact List.mem_replicate.mpr ⟨by decide, rfl⟩
  have e : ln_e s = ln_e t := by
    apply Int.le_antisymm
    · have h1 : t ∈ A := List.mem_iff_getElem?.mpr ⟨0, ht⟩
      have h2 : t ∈ O := pO.mem_iff.mpr ((m1 t).mpr (pA.mem_iff.mp h1))
      obtain ⟨j, hj⟩ := List.mem_iff_getElem?.mp h2
      exact hO 0 j s t (Nat.zero_le _) hs hj
    · have h1 : s ∈ O := List.mem_iff_getElem?.mpr ⟨0, hs⟩
      have h2 : s ∈ A := pA.mem_iff.mpr ((m1 s).mp (pO.mem_iff.mp h1))
      obtain ⟨j, hj⟩ := List.mem_iff_getElem?.mp h2
      exact hA 0 j t s (Nat.zero_le _) ht hj
  rw [ln_e_eq e]
end
end
section
/-! the quiet state of the law -/
def ln_Bg (n j : Nat) : Prop := 12 < n ∧ (j = 10 ∨ j = 11)
def ln_kpo (kp : Nat → Bool) : Prop := kp 0 = false ∧ kp 10 = false ∧ ∀ d, 11 ≤ d → kp d = false
def ln_W (w u least : Int32) (n : Nat) (s : St2) : Prop := ∃ kp, ln_kpo kp ∧ ln_Q (ln_LR w u n) (ln_P1 least) (ln_LF w u least n) 12 kp (ln_Bg n) s
theorem ln_st1 (w u least : Int32) (n : Nat) {kp : Nat → Bool} (hk : ln_kpo kp) : ln_st0 (ln_LR w u n) (ln_P1 least) (ln_LF w u least n) 12 kp := ⟨ln_wf1 least, ln_fam1 (ln_LRbd w u n) least, hk.1⟩
theorem ln_kpo_up {kp : Nat → Bool} {d : Nat} {b : Bool} (h : ln_kpo kp) (h0 : d ≠ 0) (hd : d < 10) : ln_kpo (ln_up kp d b) := by
  obtain ⟨h1, h2, h3⟩ := h
  refine ⟨by rw [ln_un (Ne.symm h0)]; exact h1, by rw [ln_un (by omega)]; exact h2, fun j hj => by rw [ln_un (by omega)]; exact h3 j hj⟩
section
variable {w u least : Int32} {n : Nat}
theorem ln_good (hn : n ≤ 24) {d : Nat} (hd : d < 10 ∨ (d < 12 ∧ n ≤ 12)) : ∀ j, j ≤ d → (ln_LF w u least n j).length ≤ 48 := by
  intro j hj
  by_cases h10 : j = 10
  · subst h10
    rw [ln_a10]
    omega
  · exact ln_fits w u least n hn (by omega) h10
theorem ln_nBg {d : Nat} (hd : d < 10 ∨ (d < 12 ∧ n ≤ 12)) : ¬ ln_Bg n d := by
  rintro ⟨h1, h2⟩
  omega
theorem ln_Wcount {post : Int32 → St2 → Prop} (hn : n ≤ 24) {d : Nat} (hd : d < 10 ∨ (d < 12 ∧ n ≤ 12)) {s : St2} (hW : ln_W w u least n s) (H : ∀ (hc sc lv cl pk pv oc : Int32) (a1 a2 a3 a4 a5 a6 a7 a8 a9 a10 a11 a12 a13 a14 a15 a16 a17 a18 a19 a20 a21 a22 a23 a24 a25 : Nat → Int32), ln_W w u least n (hc, sc, lv, cl, pk, pv, oc, a1, a2, a3, a4, a5, a6, a7, a8, a9, a10, a11, a12, a13, a14, a15, a16, a17, a18, a19, a20, a21, a22, a23, a24, a25) → post (nI (ln_LF w u least n d).length) (hc, sc, lv, cl, pk, pv, oc, a1, a2, a3, a4, a5, a6, a7, a8, a9, a10, a11, a12, a13, a14, a15, a16, a17, a18, a19, a20, a21, a22, a23, a24, a25)) : wpX_count post s (nI d) := by
  obtain ⟨kp, hk, hQ⟩ := hW
  refine ln_count (ln_st1 w u least n hk) s hQ (by omega) (fun N _ j hj _ => ln_good hn hd j hj) (ln_nBg hd) (fun s hQ => ?_)
  obtain ⟨hc, sc, lv, cl, pk, pv, oc, a1, a2, a3, a4, a5, a6, a7, a8, a9, a10, a11, a12, a13, a14, a15, a16, a17, a18, a19, a20, a21, a22, a23, a24, a25⟩ := s
  exact H hc sc lv cl pk pv oc a1 a2 a3 a4 a5 a6 a7 a8 a9 a10 a11 a12 a13 a14 a15 a16 a17 a18 a19 a20 a21 a22 a23 a24 a25 ⟨kp, hk, hQ⟩
theorem ln_Wtotal {post : Int32 → St2 → Prop} (hn : n ≤ 24) {d : Nat} (hd : d < 10 ∨ (d < 12 ∧ n ≤ 12)) {s : St2} (hW : ln_W w u least n s) (H : ∀ (hc sc lv cl pk pv oc : Int32) (a1 a2 a3 a4 a5 a6 a7 a8 a9 a10 a11 a12 a13 a14 a15 a16 a17 a18 a19 a20 a21 a22 a23 a24 a25 : Nat → Int32), ln_W w u least n (hc, sc, lv, cl, pk, pv, oc, a1, a2, a3, a4, a5, a6, a7, a8, a9, a10, a11, a12, a13, a14, a15, a16, a17, a18, a19, a20, a21, a22, a23, a24, a25) → post (ln_sm ln_v (ln_LF w u least n d)) (hc, sc, lv, cl, pk, pv, oc, a1, a2, a3, a4, a5, a6, a7, a8, a9, a10, a11, a12, a13, a14, a15, a16, a17, a18, a19, a20, a21, a22, a23, a24, a25)) : wpX_total post s (nI d) := by
  obtain ⟨kp, hk, hQ⟩ := hW
  refine ln_total (ln_st1 w u least n hk) s hQ (by omega) (fun N _ j hj _ => ln_good hn hd j hj) (ln_nBg hd) (fun s hQ => ?_)
  obtain ⟨hc, sc, lv, cl, pk, pv, oc, a1, a2, a3, a4, a5, a6, a7, a8, a9, a10, a11, a12, a13, a14, a15, a16, a17, a18, a19, a20, a21, a22, a23, a24, a25⟩ := s
  exact H hc sc lv cl pk pv oc a1 a2 a3 a4 a5 a6 a7 a8 a9 a10 a11 a12 a13 a14 a15 a16 a17 a18 a19 a20 a21 a22 a23 a24 a25 ⟨kp, hk, hQ⟩
theorem ln_Wlookup {post : Int32 → St2 → Prop} (hn : n ≤ 24) {d k : Nat} (hd : d < 10) (hk' : k < 16) {s : St2} (hW : ln_W w u least n s) (H : ∀ (hc sc lv cl pk pv oc : Int32) (a1 a2 a3 a4 a5 a6 a7 a8 a9 a10 a11 a12 a13 a14 a15 a16 a17 a18 a19 a20 a21 a22 a23 a24 a25 : Nat → Int32), ln_W w u least n (hc, sc, lv, cl, pk, pv, oc, a1, a2, a3, a4, a5, a6, a7, a8, a9, a10, a11, a12, a13, a14, a15, a16, a17, a18, a19, a20, a21, a22, a23, a24, a25) → post (ln_sm ln_v ((ln_LF w u least n d).filter (ln_ky k))) (hc, sc, lv, cl, pk, pv, oc, a1, a2, a3, a4, a5, a6, a7, a8, a9, a10, a11, a12, a13, a14, a15, a16, a17, a18, a19, a20, a21, a22, a23, a24, a25)) : wpX_lookup post s (nI d) (nI k) := by
  obtain ⟨kp, hk, hQ⟩ := hW
  refine ln_lookup (ln_st1 w u least n hk) s hQ (by omega) (by omega) (fun N _ j hj _ => ln_good hn (Or.inl hd) j hj) (ln_nBg (Or.inl hd)) (fun s hQ => ?_)
  obtain ⟨hc, sc, lv, cl, pk, pv, oc, a1, a2, a3, a4, a5, a6, a7, a8, a9, a10, a11, a12, a13, a14, a15, a16, a17, a18, a19, a20, a21, a22, a23, a24, a25⟩ := s
  exact H hc sc lv cl pk pv oc a1 a2 a3 a4 a5 a6 a7 a8 a9 a10 a11 a12 a13 a14 a15 a16 a17 a18 a19 a20 a21 a22 a23 a24 a25 ⟨kp, hk, hQ⟩
theorem ln_WkeyOf {post : Int32 → St2 → Prop} (hn : n ≤ 24) {d k : Nat} (hd : d < 10 ∨ (d < 12 ∧ n ≤ 12)) (hk' : k < 1000) {s : St2} (hW : ln_W w u least n s)
    (H1 : ∀ (O : List (Nat × Int32)) (t : Nat × Int32), ln_srt O → O.Perm ((ln_LF w u least n d).map (fun t => t.2)) → O[k]? = some t → ∀ (hc sc lv cl pk pv oc : Int32) (a1 a2 a3 a4 a5 a6 a7 a8 a9 a10 a11 a12 a13 a14 a15 a16 a17 a18 a19 a20 a21 a22 a23 a24 a25 : Nat → Int32), ln_W w u least n (hc, sc, lv, cl, pk, pv, oc, a1, a2, a3, a4, a5, a6, a7, a8, a9, a10, a11, a12, a13, a14, a15, a16, a17, a18, a19, a20, a21, a22, a23, a24, a25) → post (nI t.1) (hc, sc, lv, cl, pk, pv, oc, a1, a2, a3, a4, a5, a6, a7, a8, a9, a10, a11, a12, a13, a14, a15, a16, a17, a18, a19, a20, a21, a22, a23, a24, a25))
    (H0 : (ln_LF w u least n d).length ≤ k → ∀ (hc sc lv cl pk pv oc : Int32) (a1 a2 a3 a4 a5 a6 a7 a8 a9 a10 a11 a12 a13 a14 a15 a16 a17 a18 a19 a20 a21 a22 a23 a24 a25 : Nat → Int32), ln_W w u least n (hc, sc, lv, cl, pk, pv, oc, a1, a2, a3, a4, a5, a6, a7, a8, a9, a10, a11, a12, a13, a14, a15, a16, a17, a18, a19, a20, a21, a22, a23, a24, a25) → post (-1) (hc, sc, lv, cl, pk, pv, oc, a1, a2, a3, a4, a5, a6, a7, a8, a9, a10, a11, a12, a13, a14, a15, a16, a17, a18, a19, a20, a21, a22, a23, a24, a25)) : wpX_keyOf post s (nI d) (nI k) := by
  obtain ⟨kp, hk, hQ⟩ := hW
  refine ln_keyOf (ln_st1 w u least n hk) s hQ (by omega) hk' (fun N _ j hj _ => ln_good hn hd j hj) (ln_good hn hd d (Nat.le_refl _)) (ln_nBg hd) (fun O t s h1 h2 h3 hQ => ?_) (fun hl s hQ => ?_)
  · obtain ⟨hc, sc, lv, cl, pk, pv, oc, a1, a2, a3, a4, a5, a6, a7, a8, a9, a10, a11, a12, a13, a14, a15, a16, a17, a18, a19, a20, a21, a22, a23, a24, a25⟩ := s
    exact H1 O t h1 h2 h3 hc sc lv cl pk pv oc a1 a2 a3 a4 a5 a6 a7 a8 a9 a10 a11 a12 a13 a14 a15 a16 a17 a18 a19 a20 a21 a22 a23 a24 a25 ⟨kp, hk, hQ⟩
  · obtain ⟨hc, sc, lv, cl, pk, pv, oc, a1, a2, a3, a4, a5, a6, a7, a8, a9, a10, a11, a12, a13, a14, a15, a16, a17, a18, a19, a20, a21, a22, a23, a24, a25⟩ := s
    exact H0 hl hc sc lv cl pk pv oc a1 a2 a3 a4 a5 a6 a7 a8 a9 a10 a11 a12 a13 a14 a15 a16 a17 a18 a19 a20 a21 a22 a23 a24 a25 ⟨kp, hk, hQ⟩
theorem ln_WvalueOf {post : Int32 → St2 → Prop} (hn : n ≤ 24) {d k : Nat} (hd : d < 10) (hk' : k < (ln_LF w u least n d).length) {s : St2} (hW : ln_W w u least n s)
    (H1 : ∀ (O : List (Nat × Int32)) (t : Nat × Int32), ln_srt O → O.Perm ((ln_LF w u least n d).map (fun t => t.2)) → O[k]? = some t → ∀ (hc sc lv cl pk pv oc : Int32) (a1 a2 a3 a4 a5 a6 a7 a8 a9 a10 a11 a12 a13 a14 a15 a16 a17 a18 a19 a20 a21 a22 a23 a24 a25 : Nat → Int32), ln_W w u least n (hc, sc, lv, cl, pk, pv, oc, a1, a2, a3, a4, a5, a6, a7, a8, a9, a10, a11, a12, a13, a14, a15, a16, a17, a18, a19, a20, a21, a22, a23, a24, a25) → post t.2 (hc, sc, lv, cl, pk, pv, oc, a1, a2, a3, a4, a5, a6, a7, a8, a9, a10, a11, a12, a13, a14, a15, a16, a17, a18, a19, a20, a21, a22, a23, a24, a25)) : wpX_valueOf post s (nI d) (nI k) := by
  obtain ⟨kp, hk, hQ⟩ := hW
  have hfd := ln_good (w := w) (u := u) (least := least) hn (Or.inl hd) d (Nat.le_refl _)
  refine ln_valueOf (ln_st1 w u least n hk) s hQ (by omega) (by omega) (fun N _ j hj _ => ln_good hn (Or.inl hd) j hj) hfd (ln_nBg (Or.inl hd)) hk' (fun O t s h1 h2 h3 hQ => ?_)
  obtain ⟨hc, sc, lv, cl, pk, pv, oc, a1, a2, a3, a4, a5, a6, a7, a8, a9, a10, a11, a12, a13, a14, a15, a16, a17, a18, a19, a20, a21, a22, a23, a24, a25⟩ := s
  exact H1 O t h1 h2 h3 hc sc lv cl pk pv oc a1 a2 a3 a4 a5 a6 a7 a8 a9 a10 a11 a12 a13 a14 a15 a16 a17 a18 a19 a20 a21 a22 a23 a24 a25 ⟨kp, hk, hQ⟩
theorem ln_bigF {j d : Nat} (hn : n ≤ 24) (hd : d < 12) (hj : j ≤ d) (h10 : j ≠ 10) : (ln_LF w u least n j).length ≤ 48 := ln_fits w u least n hn (by omega) h10
theorem ln_bigd (hb : 12 < n) {d : Nat} (hd : d = 10 ∨ d = 11) : d = 10 ∨ (10 < d ∧ ln_wide (ln_P1 least d).1 = true ∧ ln_src (ln_P1 least) d 10 ∧ (ln_P1 least d).1 ≠ 0) := by
  rcases hd with h | h
  · exact Or.inl h
  · subst h
    exact Or.inr ⟨by decide, rfl, Or.inl rfl, (by decide : (6 : Nat) ≠ 0)⟩
theorem ln_WcountB {post : Int32 → St2 → Prop} (hn : n ≤ 24) (hb : 12 < n) {d : Nat} (hd : d = 10 ∨ d = 11) {s : St2} (hW : ln_W w u least n s) (H : ∀ (hc sc lv cl pk pv oc : Int32) (a1 a2 a3 a4 a5 a6 a7 a8 a9 a10 a11 a12 a13 a14 a15 a16 a17 a18 a19 a20 a21 a22 a23 a24 a25 : Nat → Int32), ln_W w u least n (hc, sc, lv, cl, pk, pv, oc, a1, a2, a3, a4, a5, a6, a7, a8, a9, a10, a11, a12, a13, a14, a15, a16, a17, a18, a19, a20, a21, a22, a23, a24, a25) → post (-3) (hc, sc, lv, cl, pk, pv, oc, a1, a2, a3, a4, a5, a6, a7, a8, a9, a10, a11, a12, a13, a14, a15, a16, a17, a18, a19, a20, a21, a22, a23, a24, a25)) : wpX_count post s (nI d) := by
  obtain ⟨kp, hk, hQ⟩ := hW
  refine ln_countB (b := 10) (ln_st1 w u least n hk) s hQ (by omega) (fun j hj h10 => ln_bigF hn (by omega) hj h10) (by rw [ln_a10]; omega) (ln_bigd hb hd) hk.2.1 ?_ ⟨hb, Or.inl rfl⟩ ⟨hb, hd⟩ (fun s hQ => ?_)
  · rcases hd with h | h
    · rw [h]; exact hk.2.1
    · exact hk.2.2 d (by omega)
  · obtain ⟨hc, sc, lv, cl, pk, pv, oc, a1, a2, a3, a4, a5, a6, a7, a8, a9, a10, a11, a12, a13, a14, a15, a16, a17, a18, a19, a20, a21, a22, a23, a24, a25⟩ := s
    exact H hc sc lv cl pk pv oc a1 a2 a3 a4 a5 a6 a7 a8 a9 a10 a11 a12 a13 a14 a15 a16 a17 a18 a19 a20 a21 a22 a23 a24 a25 ⟨kp, hk, hQ⟩
theorem ln_WtotalB {post : Int32 → St2 → Prop} (hn : n ≤ 24) (hb : 12 < n) {d : Nat} (hd : d = 10 ∨ d = 11) {s : St2} (hW : ln_W w u least n s) (H : ∀ (hc sc lv cl pk pv oc : Int32) (a1 a2 a3 a4 a5 a6 a7 a8 a9 a10 a11 a12 a13 a14 a15 a16 a17 a18 a19 a20 a21 a22 a23 a24 a25 : Nat → Int32), ln_W w u least n (hc, sc, lv, cl, pk, pv, oc, a1, a2, a3, a4, a5, a6, a7, a8, a9, a10, a11, a12, a13, a14, a15, a16, a17, a18, a19, a20, a21, a22, a23, a24, a25) → post 0 (hc, sc, lv, cl, pk, pv, oc, a1, a2, a3, a4, a5, a6, a7, a8, a9, a10, a11, a12, a13, a14, a15, a16, a17, a18, a19, a20, a21, a22, a23, a24, a25)) : wpX_total post s (nI d) := by
  obtain ⟨kp, hk, hQ⟩ := hW
  refine ln_totalB (b := 10) (ln_st1 w u least n hk) s hQ (by omega) (fun j hj h10 => ln_bigF hn (by omega) hj h10) (by rw [ln_a10]; omega) (ln_bigd hb hd) hk.2.1 ?_ ⟨hb, Or.inl rfl⟩ ⟨hb, hd⟩ (fun s hQ => ?_)
  · rcases hd with h | h
    · rw [h]; exact hk.2.1
    · exact hk.2.2 d (by omega)
  · obtain ⟨hc, sc, lv, cl, pk, pv, oc, a1, a2, a3, a4, a5, a6, a7, a8, a9, a10, a11, a12, a13, a14, a15, a16, a17, a18, a19, a20, a21, a22, a23, a24, a25⟩ := s
    exact H hc sc lv cl pk pv oc a1 a2 a3 a4 a5 a6 a7 a8 a9 a10 a11 a12 a13 a14 a15 a16 a17 a18 a19 a20 a21 a22 a23 a24 a25 ⟨kp, hk, hQ⟩
theorem ln_WkeyOfB {post : Int32 → St2 → Prop} {k : Int32} (hn : n ≤ 24) (hb : 12 < n) {d : Nat} (hd : d = 10 ∨ d = 11) {s : St2} (hW : ln_W w u least n s) (H : ∀ (hc sc lv cl pk pv oc : Int32) (a1 a2 a3 a4 a5 a6 a7 a8 a9 a10 a11 a12 a13 a14 a15 a16 a17 a18 a19 a20 a21 a22 a23 a24 a25 : Nat → Int32), ln_W w u least n (hc, sc, lv, cl, pk, pv, oc, a1, a2, a3, a4, a5, a6, a7, a8, a9, a10, a11, a12, a13, a14, a15, a16, a17, a18, a19, a20, a21, a22, a23, a24, a25) → post (-3) (hc, sc, lv, cl, pk, pv, oc, a1, a2, a3, a4, a5, a6, a7, a8, a9, a10, a11, a12, a13, a14, a15, a16, a17, a18, a19, a20, a21, a22, a23, a24, a25)) : wpX_keyOf post s (nI d) k := by
  obtain ⟨kp, hk, hQ⟩ := hW
  refine ln_keyOfB (b := 10) (ln_st1 w u least n hk) s hQ (by omega) (fun j hj h10 => ln_bigF hn (by omega) hj h10) (by rw [ln_a10]; omega) (ln_bigd hb hd) hk.2.1 ?_ ⟨hb, Or.inl rfl⟩ ⟨hb, hd⟩ (fun s hQ => ?_)
  · rcases hd with h | h
    · rw [h]; exact hk.2.1
    · exact hk.2.2 d (by omega)
  · obtain ⟨hc, sc, lv, cl, pk, pv, oc, a1, a2, a3, a4, a5, a6, a7, a8, a9, a10, a11, a12, a13, a14, a15, a16, a17, a18, a19, a20, a21, a22, a23, a24, a25⟩ := s
    exact H hc sc lv cl pk pv oc a1 a2 a3 a4 a5 a6 a7 a8 a9 a10 a11 a12 a13 a14 a15 a16 a17 a18 a19 a20 a21 a22 a23 a24 a25 ⟨kp, hk, hQ⟩
theorem ln_Wlose {post : Int32 → St2 → Prop} {r : Nat} {x : Int32} (hx : x = nI r) (hr : r ≤ 3) {s : St2} (hW : ln_W w u least n s) (H : ∀ (hc sc lv cl pk pv oc : Int32) (a1 a2 a3 a4 a5 a6 a7 a8 a9 a10 a11 a12 a13 a14 a15 a16 a17 a18 a19 a20 a21 a22 a23 a24 a25 : Nat → Int32), ln_W w u least n (hc, sc, lv, cl, pk, pv, oc, a1, a2, a3, a4, a5, a6, a7, a8, a9, a10, a11, a12, a13, a14, a15, a16, a17, a18, a19, a20, a21, a22, a23, a24, a25) → post 1 (hc, sc, lv, cl, pk, pv, oc, a1, a2, a3, a4, a5, a6, a7, a8, a9, a10, a11, a12, a13, a14, a15, a16, a17, a18, a19, a20, a21, a22, a23, a24, a25)) : wpX_lose post s x := by
  obtain ⟨kp, hk, hQ⟩ := hW
  refine ln_lose (ln_st1 w u least n hk) hx hr s hQ (fun s hQ => ?_)
  obtain ⟨hc, sc, lv, cl, pk, pv, oc, a1, a2, a3, a4, a5, a6, a7, a8, a9, a10, a11, a12, a13, a14, a15, a16, a17, a18, a19, a20, a21, a22, a23, a24, a25⟩ := s
  exact H hc sc lv cl pk pv oc a1 a2 a3 a4 a5 a6 a7 a8 a9 a10 a11 a12 a13 a14 a15 a16 a17 a18 a19 a20 a21 a22 a23 a24 a25 ⟨kp, hk, hQ⟩
theorem ln_Wkeep1 {post : Int32 → St2 → Prop} {d : Nat} (h0 : d ≠ 0) (hd : d < 10) {s : St2} (hW : ln_W w u least n s) (H : ∀ (hc sc lv cl pk pv oc : Int32) (a1 a2 a3 a4 a5 a6 a7 a8 a9 a10 a11 a12 a13 a14 a15 a16 a17 a18 a19 a20 a21 a22 a23 a24 a25 : Nat → Int32), ln_W w u least n (hc, sc, lv, cl, pk, pv, oc, a1, a2, a3, a4, a5, a6, a7, a8, a9, a10, a11, a12, a13, a14, a15, a16, a17, a18, a19, a20, a21, a22, a23, a24, a25) → post 1 (hc, sc, lv, cl, pk, pv, oc, a1, a2, a3, a4, a5, a6, a7, a8, a9, a10, a11, a12, a13, a14, a15, a16, a17, a18, a19, a20, a21, a22, a23, a24, a25)) : wpX_keep post s (nI d) 1 := by
  obtain ⟨kp, hk, hQ⟩ := hW
  refine ln_Qkeep1 (by decide) (by omega) s hQ (fun s hQ => ?_)
  obtain ⟨hc, sc, lv, cl, pk, pv, oc, a1, a2, a3, a4, a5, a6, a7, a8, a9, a10, a11, a12, a13, a14, a15, a16, a17, a18, a19, a20, a21, a22, a23, a24, a25⟩ := s
  exact H hc sc lv cl pk pv oc a1 a2 a3 a4 a5 a6 a7 a8 a9 a10 a11 a12 a13 a14 a15 a16 a17 a18 a19 a20 a21 a22 a23 a24 a25 ⟨_, ln_kpo_up hk h0 hd, hQ⟩
theorem ln_Wkeep0 {post : Int32 → St2 → Prop} {d : Nat} (h0 : d ≠ 0) (hd : d < 10) {s : St2} (hW : ln_W w u least n s) (H : ∀ (hc sc lv cl pk pv oc : Int32) (a1 a2 a3 a4 a5 a6 a7 a8 a9 a10 a11 a12 a13 a14 a15 a16 a17 a18 a19 a20 a21 a22 a23 a24 a25 : Nat → Int32), ln_W w u least n (hc, sc, lv, cl, pk, pv, oc, a1, a2, a3, a4, a5, a6, a7, a8, a9, a10, a11, a12, a13, a14, a15, a16, a17, a18, a19, a20, a21, a22, a23, a24, a25) → post 1 (hc, sc, lv, cl, pk, pv, oc, a1, a2, a3, a4, a5, a6, a7, a8, a9, a10, a11, a12, a13, a14, a15, a16, a17, a18, a19, a20, a21, a22, a23, a24, a25)) : wpX_keep post s (nI d) 0 := by
  obtain ⟨kp, hk, hQ⟩ := hW
  refine ln_Qkeep0 (by decide) (by omega) h0 s hQ (fun s hQ => ?_)
  obtain ⟨hc, sc, lv, cl, pk, pv, oc, a1, a2, a3, a4, a5, a6, a7, a8, a9, a10, a11, a12, a13, a14, a15, a16, a17, a18, a19, a20, a21, a22, a23, a24, a25⟩ := s
  exact H hc sc lv cl pk pv oc a1 a2 a3 a4 a5 a6 a7 a8 a9 a10 a11 a12 a13 a14 a15 a16 a17 a18 a19 a20 a21 a22 a23 a24 a25 ⟨_, ln_kpo_up hk h0 hd, hQ⟩
theorem ln_Wlevel {post : Int32 → St2 → Prop} {r : Nat} {x : Int32} (hx : x = nI r) (hr : r ≤ 2) {s : St2} (hW : ln_W w u least n s) (H : ∀ (hc sc lv cl pk pv oc : Int32) (a1 a2 a3 a4 a5 a6 a7 a8 a9 a10 a11 a12 a13 a14 a15 a16 a17 a18 a19 a20 a21 a22 a23 a24 a25 : Nat → Int32), ln_W w u least n (hc, sc, lv, cl, pk, pv, oc, a1, a2, a3, a4, a5, a6, a7, a8, a9, a10, a11, a12, a13, a14, a15, a16, a17, a18, a19, a20, a21, a22, a23, a24, a25) → post 1 (hc, sc, lv, cl, pk, pv, oc, a1, a2, a3, a4, a5, a6, a7, a8, a9, a10, a11, a12, a13, a14, a15, a16, a17, a18, a19, a20, a21, a22, a23, a24, a25)) : wpX_level post s x := by
  obtain ⟨kp, hk, hQ⟩ := hW
  refine ln_Qlevel hx hr s hQ (fun s hQ => ?_)
  obtain ⟨hc, sc, lv, cl, pk, pv, oc, a1, a2, a3, a4, a5, a6, a7, a8, a9, a10, a11, a12, a13, a14, a15, a16, a17, a18, a19, a20, a21, a22, a23, a24, a25⟩ := s
  exact H hc sc lv cl pk pv oc a1 a2 a3 a4 a5 a6 a7 a8 a9 a10 a11 a12 a13 a14 a15 a16 a17 a18 a19 a20 a21 a22 a23 a24 a25 ⟨kp, hk, hQ⟩
end
end
section
/-! the law -/
section
variable {post : Int32 → St0 → Prop} {mc ms kc ks : Nat} {J : Int32 → Int32 → Int32 → Int32 → Int32 → Int32 → Int32 → Int32 → (Nat → Int32) → (Nat → Int32) → (Nat → Int32) → (Nat → Int32) → (Nat → Int32) → (Nat → Int32) → (Nat → Int32) → (Nat → Int32) → (Nat → Int32) → (Nat → Int32) → (Nat → Int32) → (Nat → Int32) → (Nat → Int32) → (Nat → Int32) → (Nat → Int32) → (Nat → Int32) → (Nat → Int32) → (Nat → Int32) → (Nat → Int32) → (Nat → Int32) → (Nat → Int32) → (Nat → Int32) → (Nat → Int32) → (Nat → Int32) → (Nat → Int32) → Prop} {w u least : Int32} {n r : Nat}
theorem ln_935 (hc sc lv cl pk pv oc : Int32) (a1 a2 a3 a4 a5 a6 a7 a8 a9 a10 a11 a12 a13 a14 a15 a16 a17 a18 a19 a20 a21 a22 a23 a24 a25 : Nat → Int32) {z0 : Int32} (hz : z0 = 0 ∨ z0 = 1) (hr : r ≤ 2) (hW : ln_W w u least n (hc, sc, lv, cl, pk, pv, oc, a1, a2, a3, a4, a5, a6, a7, a8, a9, a10, a11, a12, a13, a14, a15, a16, a17, a18, a19, a20, a21, a22, a23, a24, a25)) (H : ∀ (hc sc lv cl pk pv oc : Int32) (a1 a2 a3 a4 a5 a6 a7 a8 a9 a10 a11 a12 a13 a14 a15 a16 a17 a18 a19 a20 a21 a22 a23 a24 a25 : Nat → Int32), ln_W w u least n (hc, sc, lv, cl, pk, pv, oc, a1, a2, a3, a4, a5, a6, a7, a8, a9, a10, a11, a12, a13, a14, a15, a16, a17, a18, a19, a20, a21, a22, a23, a24, a25) → J (nI (r + 1)) hc sc lv cl pk pv oc a1 a2 a3 a4 a5 a6 a7 a8 a9 a10 a11 a12 a13 a14 a15 a16 a17 a18 a19 a20 a21 a22 a23 a24 a25) :
    wL_lawOf_935 post mc ms J w u (nI n) least (nI r) z0 2 kc ks hc sc lv cl pk pv oc a1 a2 a3 a4 a5 a6 a7 a8 a9 a10 a11 a12 a13 a14 a15 a16 a17 a18 a19 a20 a21 a22 a23 a24 a25 := by
  have G : ∀ (hc sc lv cl pk pv oc : Int32) (a1 a2 a3 a4 a5 a6 a7 a8 a9 a10 a11 a12 a13 a14 a15 a16 a17 a18 a19 a20 a21 a22 a23 a24 a25 : Nat → Int32), ln_W w u least n (hc, sc, lv, cl, pk, pv, oc, a1, a2, a3, a4, a5, a6, a7, a8, a9, a10, a11, a12, a13, a14, a15, a16, a17, a18, a19, a20, a21, a22, a23, a24, a25) → wpX_keep (fun r_4056 u => match u with | (hc_1, sc_1, lv_1, cl_1, pk_1, pv_1, oc_1, a1_1, a2_1, a3_1, a4_1, a5_1, a6_1, a7_1, a8_1, a9_1, a10_1, a11_1, a12_1, a13_1, a14_1, a15_1, a16_1, a17_1, a18_1, a19_1, a20_1, a21_1, a22_1, a23_1, a24_1, a25_1) => (((r_4056 = 0 → (post 0 ())) ∧ (¬ r_4056 = 0 → (wpX_level (fun r_4140 u => match u with | (hc_2, sc_2, lv_2, cl_2, pk_2, pv_2, oc_2, a1_2, a2_2, a3_2, a4_2, a5_2, a6_2, a7_2, a8_2, a9_2, a10_2, a11_2, a12_2, a13_2, a14_2, a15_2, a16_2, a17_2, a18_2, a19_2, a20_2, a21_2, a22_2, a23_2, a24_2, a25_2) => (((r_4140 = 0 → (post 0 ())) ∧ (¬ r_4140 = 0 → (wpX_level (fun r_4224 u => match u with | (hc_3, sc_3, lv_3, cl_3, pk_3, pv_3, oc_3, a1_3, a2_3, a3_3, a4_3, a5_3, a6_3, a7_3, a8_3, a9_3, a10_3, a11_3, a12_3, a13_3, a14_3, a15_3, a16_3, a17_3, a18_3, a19_3, a20_3, a21_3, a22_3, a23_3, a24_3, a25_3) => (((r_4224 = 0 → (∀ x : Int32, x = nI r + 1 → (J x hc_3 sc_3 lv_3 cl_3 pk_3 pv_3 oc_3 a1_3 a2_3 a3_3 a4_3 a5_3 a6_3 a7_3 a8_3 a9_3 a10_3 a11_3 a12_3 a13_3 a14_3 a15_3 a16_3 a17_3 a18_3 a19_3 a20_3 a21_3 a22_3 a23_3 a24_3 a25_3))) ∧ (¬ r_4224 = 0 → (post 0 ()))))) (hc_2, sc_2, lv_2, cl_2, pk_2, pv_2, oc_2, a1_2, a2_2, a3_2, a4_2, a5_2, a6_2, a7_2, a8_2, a9_2, a10_2, a11_2, a12_2, a13_2, a14_2, a15_2, a16_2, a17_2, a18_2, a19_2, a20_2, a21_2, a22_2, a23_2, a24_2, a25_2) 3))))) (hc_1, sc_1, lv_1, cl_1, pk_1, pv_1, oc_1, a1_1, a2_1, a3_1, a4_1, a5_1, a6_1, a7_1, a8_1, a9_1, a10_1, a11_1, a12_1, a13_1, a14_1, a15_1, a16_1, a17_1, a18_1, a19_1, a20_1, a21_1, a22_1, a23_1, a24_1, a25_1) (nI r)))))) (hc, sc, lv, cl, pk, pv, oc, a1, a2, a3, a4, a5, a6, a7, a8, a9, a10, a11, a12, a13, a14, a15, a16, a17, a18, a19, a20, a21, a22, a23, a24, a25) 5 1 := by
    intro hc sc lv cl pk pv oc a1 a2 a3 a4 a5 a6 a7 a8 a9 a10 a11 a12 a13 a14 a15 a16 a17 a18 a19 a20 a21 a22 a23 a24 a25 hW
    refine ln_Wkeep1 (d := 5) (by decide) (by decide) hW (fun hc sc lv cl pk pv oc a1 a2 a3 a4 a5 a6 a7 a8 a9 a10 a11 a12 a13 a14 a15 a16 a17 a18 a19 a20 a21 a22 a23 a24 a25 hW => br_f (by decide) ?_)
    refine ln_Wlevel rfl hr hW (fun hc sc lv cl pk pv oc a1 a2 a3 a4 a5 a6 a7 a8 a9 a10 a11 a12 a13 a14 a15 a16 a17 a18 a19 a20 a21 a22 a23 a24 a25 hW => br_f (by decide) ?_)
    exact ln_levelN (hc, sc, lv, cl, pk, pv, oc, a1, a2, a3, a4, a5, a6, a7, a8, a9, a10, a11, a12, a13, a14, a15, a16, a17, a18, a19, a20, a21, a22, a23, a24, a25) (br_t rfl (nm_r (nI_1 r) (H hc sc lv cl pk pv oc a1 a2 a3 a4 a5 a6 a7 a8 a9 a10 a11 a12 a13 a14 a15 a16 a17 a18 a19 a20 a21 a22 a23 a24 a25 hW)))
  unfold wL_lawOf_935
  rcases hz with h | h
  · subst h
    exact ln_Wkeep0 (d := 2) (by decide) (by decide) hW (fun hc sc lv cl pk pv oc a1 a2 a3 a4 a5 a6 a7 a8 a9 a10 a11 a12 a13 a14 a15 a16 a17 a18 a19 a20 a21 a22 a23 a24 a25 hW => br_f (by decide) (G hc sc lv cl pk pv oc a1 a2 a3 a4 a5 a6 a7 a8 a9 a10 a11 a12 a13 a14 a15 a16 a17 a18 a19 a20 a21 a22 a23 a24 a25 hW))
  · subst h
    exact ln_Wkeep1 (d := 2) (by decide) (by decide) hW (fun hc sc lv cl pk pv oc a1 a2 a3 a4 a5 a6 a7 a8 a9 a10 a11 a12 a13 a14 a15 a16 a17 a18 a19 a20 a21 a22 a23 a24 a25 hW => br_f (by decide) (G hc sc lv cl pk pv oc a1 a2 a3 a4 a5 a6 a7 a8 a9 a10 a11 a12 a13 a14 a15 a16 a17 a18 a19 a20 a21 a22 a23 a24 a25 hW))
theorem ln_886 (hc sc lv cl pk pv oc : Int32) (a1 a2 a3 a4 a5 a6 a7 a8 a9 a10 a11 a12 a13 a14 a15 a16 a17 a18 a19 a20 a21 a22 a23 a24 a25 : Nat → Int32) {z0 z1 : Int32} (hz : z1 = z0) (hr : r ≤ 2) (hW : ln_W w u least n (hc, sc, lv, cl, pk, pv, oc, a1, a2, a3, a4, a5, a6, a7, a8, a9, a10, a11, a12, a13, a14, a15, a16, a17, a18, a19, a20, a21, a22, a23, a24, a25)) (H : ∀ (hc sc lv cl pk pv oc : Int32) (a1 a2 a3 a4 a5 a6 a7 a8 a9 a10 a11 a12 a13 a14 a15 a16 a17 a18 a19 a20 a21 a22 a23 a24 a25 : Nat → Int32), ln_W w u least n (hc, sc, lv, cl, pk, pv, oc, a1, a2, a3, a4, a5, a6, a7, a8, a9, a10, a11, a12, a13, a14, a15, a16, a17, a18, a19, a20, a21, a22, a23, a24, a25) → J (nI (r + 1)) hc sc lv cl pk pv oc a1 a2 a3 a4 a5 a6 a7 a8 a9 a10 a11 a12 a13 a14 a15 a16 a17 a18 a19 a20 a21 a22 a23 a24 a25) :
    wL_lawOf_886 post mc ms J w u (nI n) least (nI r) z0 z1 kc ks hc sc lv cl pk pv oc a1 a2 a3 a4 a5 a6 a7 a8 a9 a10 a11 a12 a13 a14 a15 a16 a17 a18 a19 a20 a21 a22 a23 a24 a25 := by
  unfold wL_lawOf_886
  refine br_t hz ?_
  refine ln_Wlose rfl (by omega) hW (fun hc sc lv cl pk pv oc a1 a2 a3 a4 a5 a6 a7 a8 a9 a10 a11 a12 a13 a14 a15 a16 a17 a18 a19 a20 a21 a22 a23 a24 a25 hW => br_f (by decide) ?_)
  refine ln_Wlose (r := 3 - r) (pk_sub (a := 3) (by omega)) (by omega) hW (fun hc sc lv cl pk pv oc a1 a2 a3 a4 a5 a6 a7 a8 a9 a10 a11 a12 a13 a14 a15 a16 a17 a18 a19 a20 a21 a22 a23 a24 a25 hW => br_f (by decide) ?_)
  refine ln_loseX (hc, sc, lv, cl, pk, pv, oc, a1, a2, a3, a4, a5, a6, a7, a8, a9, a10, a11, a12, a13, a14, a15, a16, a17, a18, a19, a20, a21, a22, a23, a24, a25) (br_t rfl (br_c (fun z => ?_) (fun z => ?_)))
  · exact ln_935 hc sc lv cl pk pv oc a1 a2 a3 a4 a5 a6 a7 a8 a9 a10 a11 a12 a13 a14 a15 a16 a17 a18 a19 a20 a21 a22 a23 a24 a25 (Or.inr rfl) hr hW H
  · exact ln_935 hc sc lv cl pk pv oc a1 a2 a3 a4 a5 a6 a7 a8 a9 a10 a11 a12 a13 a14 a15 a16 a17 a18 a19 a20 a21 a22 a23 a24 a25 (Or.inl rfl) hr hW H
theorem ln_m4 (n : Nat) : (4 : Int32) * nI n = nI (4 * n) := pk_mul 4 n
theorem ln_845 (hc sc lv cl pk pv oc : Int32) (a1 a2 a3 a4 a5 a6 a7 a8 a9 a10 a11 a12 a13 a14 a15 a16 a17 a18 a19 a20 a21 a22 a23 a24 a25 : Nat → Int32) {z0 z1 : Int32} (hz : z1 = z0) (hr : r ≤ 2) (hn : n ≤ 24) (hW : ln_W w u least n (hc, sc, lv, cl, pk, pv, oc, a1, a2, a3, a4, a5, a6, a7, a8, a9, a10, a11, a12, a13, a14, a15, a16, a17, a18, a19, a20, a21, a22, a23, a24, a25)) (H : ∀ (hc sc lv cl pk pv oc : Int32) (a1 a2 a3 a4 a5 a6 a7 a8 a9 a10 a11 a12 a13 a14 a15 a16 a17 a18 a19 a20 a21 a22 a23 a24 a25 : Nat → Int32), ln_W w u least n (hc, sc, lv, cl, pk, pv, oc, a1, a2, a3, a4, a5, a6, a7, a8, a9, a10, a11, a12, a13, a14, a15, a16, a17, a18, a19, a20, a21, a22, a23, a24, a25) → J (nI (r + 1)) hc sc lv cl pk pv oc a1 a2 a3 a4 a5 a6 a7 a8 a9 a10 a11 a12 a13 a14 a15 a16 a17 a18 a19 a20 a21 a22 a23 a24 a25) :
    wL_lawOf_845 post mc ms J w u (nI n) least (nI r) z0 z1 kc ks hc sc lv cl pk pv oc a1 a2 a3 a4 a5 a6 a7 a8 a9 a10 a11 a12 a13 a14 a15 a16 a17 a18 a19 a20 a21 a22 a23 a24 a25 := by
  unfold wL_lawOf_845
  refine br_t hz ?_
  by_cases hb : 12 < n
  · refine ln_WkeyOfB (d := 10) hn hb (Or.inl rfl) hW (fun hc sc lv cl pk pv oc a1 a2 a3 a4 a5 a6 a7 a8 a9 a10 a11 a12 a13 a14 a15 a16 a17 a18 a19 a20 a21 a22 a23 a24 a25 hW => br_f ?_ ?_)
    · rw [ln_m4]
      exact nI_ge (b := 4 * n) (a := 48) (by omega) (by omega)
    · exact ln_886 hc sc lv cl pk pv oc a1 a2 a3 a4 a5 a6 a7 a8 a9 a10 a11 a12 a13 a14 a15 a16 a17 a18 a19 a20 a21 a22 a23 a24 a25 rfl hr hW H
  · have h48 : (4 : Int32) * nI n ≤ 48 := by
      rw [ln_m4]
      exact nI_le (b := 48) (by omega) (by decide)
    refine ln_WkeyOf (d := 10) (k := 0) hn (Or.inr ⟨by decide, by omega⟩) (by decide) hW (fun O t h1 h2 h3 hc sc lv cl pk pv oc a1 a2 a3 a4 a5 a6 a7 a8 a9 a10 a11 a12 a13 a14 a15 a16 a17 a18 a19 a20 a21 a22 a23 a24 a25 hW => br_t h48 (pk_eq n 0 (fun z => ?_) (fun z => ?_))) (fun hl hc sc lv cl pk pv oc a1 a2 a3 a4 a5 a6 a7 a8 a9 a10 a11 a12 a13 a14 a15 a16 a17 a18 a19 a20 a21 a22 a23 a24 a25 hW => br_t h48 (pk_eq n 0 (fun z => ?_) (fun z => ?_)))
    · have := h2.length_eq
      rw [List.length_map, ln_a10, z] at this
      have h4 : 0 < O.length := (List.getElem?_eq_some_iff.mp h3).1
      omega
    · refine ln_WkeyOf (d := 0) (k := 0) hn (Or.inl (by decide)) (by decide) hW (fun A t' g1 g2 g3 hc sc lv cl pk pv oc a1 a2 a3 a4 a5 a6 a7 a8 a9 a10 a11 a12 a13 a14 a15 a16 a17 a18 a19 a20 a21 a22 a23 a24 a25 hW => ?_) (fun hl hc sc lv cl pk pv oc a1 a2 a3 a4 a5 a6 a7 a8 a9 a10 a11 a12 a13 a14 a15 a16 a17 a18 a19 a20 a21 a22 a23 a24 a25 hW => ?_)
      · exact ln_886 hc sc lv cl pk pv oc a1 a2 a3 a4 a5 a6 a7 a8 a9 a10 a11 a12 a13 a14 a15 a16 a17 a18 a19 a20 a21 a22 a23 a24 a25 (by rw [ln_first w u least n h1 g1 h2 g2 h3 g3]) hr hW H
      · have : (ln_LF w u least n 0).length = n := ln_LRlen w u n
        omega
    · exact ln_886 hc sc lv cl pk pv oc a1 a2 a3 a4 a5 a6 a7 a8 a9 a10 a11 a12 a13 a14 a15 a16 a17 a18 a19 a20 a21 a22 a23 a24 a25 rfl hr hW H
    · rw [ln_a10] at hl
      omega
theorem ln_818 (hc sc lv cl pk pv oc : Int32) (a1 a2 a3 a4 a5 a6 a7 a8 a9 a10 a11 a12 a13 a14 a15 a16 a17 a18 a19 a20 a21 a22 a23 a24 a25 : Nat → Int32) {x15 z0 z1 : Int32} (hz : z1 = z0) (hr : r ≤ 2) (hn : n ≤ 24) (h15 : x15 = ln_ss (ln_su w u n) 16) (hW : ln_W w u least n (hc, sc, lv, cl, pk, pv, oc, a1, a2, a3, a4, a5, a6, a7, a8, a9, a10, a11, a12, a13, a14, a15, a16, a17, a18, a19, a20, a21, a22, a23, a24, a25)) (H : ∀ (hc sc lv cl pk pv oc : Int32) (a1 a2 a3 a4 a5 a6 a7 a8 a9 a10 a11 a12 a13 a14 a15 a16 a17 a18 a19 a20 a21 a22 a23 a24 a25 : Nat → Int32), ln_W w u least n (hc, sc, lv, cl, pk, pv, oc, a1, a2, a3, a4, a5, a6, a7, a8, a9, a10, a11, a12, a13, a14, a15, a16, a17, a18, a19, a20, a21, a22, a23, a24, a25) → J (nI (r + 1)) hc sc lv cl pk pv oc a1 a2 a3 a4 a5 a6 a7 a8 a9 a10 a11 a12 a13 a14 a15 a16 a17 a18 a19 a20 a21 a22 a23 a24 a25) :
    wL_lawOf_818 post mc ms J w u (nI n) least (nI r) x15 z0 z1 kc ks hc sc lv cl pk pv oc a1 a2 a3 a4 a5 a6 a7 a8 a9 a10 a11 a12 a13 a14 a15 a16 a17 a18 a19 a20 a21 a22 a23 a24 a25 := by
  unfold wL_lawOf_818
  refine br_t hz ?_
  by_cases hb : 12 < n
  · refine ln_WtotalB (d := 11) hn hb (Or.inr rfl) hW (fun hc sc lv cl pk pv oc a1 a2 a3 a4 a5 a6 a7 a8 a9 a10 a11 a12 a13 a14 a15 a16 a17 a18 a19 a20 a21 a22 a23 a24 a25 hW => br_f ?_ ?_)
    · rw [ln_m4]
      exact nI_ge (b := 4 * n) (a := 48) (by omega) (by omega)
    · exact ln_845 hc sc lv cl pk pv oc a1 a2 a3 a4 a5 a6 a7 a8 a9 a10 a11 a12 a13 a14 a15 a16 a17 a18 a19 a20 a21 a22 a23 a24 a25 rfl hr hn hW H
  · have h48 : (4 : Int32) * nI n ≤ 48 := by
      rw [ln_m4]
      exact nI_le (b := 48) (by omega) (by decide)
    refine ln_Wtotal (d := 11) hn (Or.inr ⟨by decide, by omega⟩) hW (fun hc sc lv cl pk pv oc a1 a2 a3 a4 a5 a6 a7 a8 a9 a10 a11 a12 a13 a14 a15 a16 a17 a18 a19 a20 a21 a22 a23 a24 a25 hW => br_t h48 ?_)
    exact ln_845 hc sc lv cl pk pv oc a1 a2 a3 a4 a5 a6 a7 a8 a9 a10 a11 a12 a13 a14 a15 a16 a17 a18 a19 a20 a21 a22 a23 a24 a25 (by rw [ln_t11, h15]) hr hn hW H
theorem ln_792 (hc sc lv cl pk pv oc : Int32) (a1 a2 a3 a4 a5 a6 a7 a8 a9 a10 a11 a12 a13 a14 a15 a16 a17 a18 a19 a20 a21 a22 a23 a24 a25 : Nat → Int32) {x9 x15 z0 z1 : Int32} (hz : z1 = z0) (hr : r ≤ 2) (hn : n ≤ 24) (h9 : x9 = nI (ln_cn (ln_kc w u n) 16)) (h15 : x15 = ln_ss (ln_su w u n) 16) (hW : ln_W w u least n (hc, sc, lv, cl, pk, pv, oc, a1, a2, a3, a4, a5, a6, a7, a8, a9, a10, a11, a12, a13, a14, a15, a16, a17, a18, a19, a20, a21, a22, a23, a24, a25)) (H : ∀ (hc sc lv cl pk pv oc : Int32) (a1 a2 a3 a4 a5 a6 a7 a8 a9 a10 a11 a12 a13 a14 a15 a16 a17 a18 a19 a20 a21 a22 a23 a24 a25 : Nat → Int32), ln_W w u least n (hc, sc, lv, cl, pk, pv, oc, a1, a2, a3, a4, a5, a6, a7, a8, a9, a10, a11, a12, a13, a14, a15, a16, a17, a18, a19, a20, a21, a22, a23, a24, a25) → J (nI (r + 1)) hc sc lv cl pk pv oc a1 a2 a3 a4 a5 a6 a7 a8 a9 a10 a11 a12 a13 a14 a15 a16 a17 a18 a19 a20 a21 a22 a23 a24 a25) :
    wL_lawOf_792 post mc ms J w u (nI n) least (nI r) x9 x15 z0 z1 kc ks hc sc lv cl pk pv oc a1 a2 a3 a4 a5 a6 a7 a8 a9 a10 a11 a12 a13 a14 a15 a16 a17 a18 a19 a20 a21 a22 a23 a24 a25 := by
  unfold wL_lawOf_792
  refine br_t hz ?_
  by_cases hb : 12 < n
  · refine ln_WcountB (d := 11) hn hb (Or.inr rfl) hW (fun hc sc lv cl pk pv oc a1 a2 a3 a4 a5 a6 a7 a8 a9 a10 a11 a12 a13 a14 a15 a16 a17 a18 a19 a20 a21 a22 a23 a24 a25 hW => br_f ?_ ?_)
    · rw [ln_m4]
      exact nI_ge (b := 4 * n) (a := 48) (by omega) (by omega)
    · exact ln_818 hc sc lv cl pk pv oc a1 a2 a3 a4 a5 a6 a7 a8 a9 a10 a11 a12 a13 a14 a15 a16 a17 a18 a19 a20 a21 a22 a23 a24 a25 rfl hr hn h15 hW H
  · have h48 : (4 : Int32) * nI n ≤ 48 := by
      rw [ln_m4]
      exact nI_le (b := 48) (by omega) (by decide)
    refine ln_Wcount (d := 11) hn (Or.inr ⟨by decide, by omega⟩) hW (fun hc sc lv cl pk pv oc a1 a2 a3 a4 a5 a6 a7 a8 a9 a10 a11 a12 a13 a14 a15 a16 a17 a18 a19 a20 a21 a22 a23 a24 a25 hW => br_t h48 ?_)
    exact ln_818 hc sc lv cl pk pv oc a1 a2 a3 a4 a5 a6 a7 a8 a9 a10 a11 a12 a13 a14 a15 a16 a17 a18 a19 a20 a21 a22 a23 a24 a25 (by rw [ln_a11 w u least n hn, h9]) hr hn h15 hW H
theorem ln_551 (hc sc lv cl pk pv oc : Int32) (a1 a2 a3 a4 a5 a6 a7 a8 a9 a10 a11 a12 a13 a14 a15 a16 a17 a18 a19 a20 a21 a22 a23 a24 a25 : Nat → Int32) {J511 : Int32 → Int32 → Int32 → Int32 → Int32 → Int32 → Int32 → Int32 → Int32 → Int32 → (Nat → Int32) → (Nat → Int32) → (Nat → Int32) → (Nat → Int32) → (Nat → Int32) → (Nat → Int32) → (Nat → Int32) → (Nat → Int32) → (Nat → Int32) → (Nat → Int32) → (Nat → Int32) → (Nat → Int32) → (Nat → Int32) → (Nat → Int32) → (Nat → Int32) → (Nat → Int32) → (Nat → Int32) → (Nat → Int32) → (Nat → Int32) → (Nat → Int32) → (Nat → Int32) → (Nat → Int32) → (Nat → Int32) → (Nat → Int32) → (Nat → Int32) → Prop} {x9 x10 x11 x12 x13 x14 x15 x17 x18 : Int32} {k : Nat} (hk : k < 16) (hn : n ≤ 24) (h17 : x17 = nI (ln_cn (ln_hp w u k (-1000)) n)) (h18 : x18 = ln_su w u n k) (hW : ln_W w u least n (hc, sc, lv, cl, pk, pv, oc, a1, a2, a3, a4, a5, a6, a7, a8, a9, a10, a11, a12, a13, a14, a15, a16, a17, a18, a19, a20, a21, a22, a23, a24, a25)) (H : ∀ (hc sc lv cl pk pv oc : Int32) (a1 a2 a3 a4 a5 a6 a7 a8 a9 a10 a11 a12 a13 a14 a15 a16 a17 a18 a19 a20 a21 a22 a23 a24 a25 : Nat → Int32), ln_W w u least n (hc, sc, lv, cl, pk, pv, oc, a1, a2, a3, a4, a5, a6, a7, a8, a9, a10, a11, a12, a13, a14, a15, a16, a17, a18, a19, a20, a21, a22, a23, a24, a25) → J511 x9 (x15 + ln_su w u n k) (nI (k + 1)) hc sc lv cl pk pv oc a1 a2 a3 a4 a5 a6 a7 a8 a9 a10 a11 a12 a13 a14 a15 a16 a17 a18 a19 a20 a21 a22 a23 a24 a25) :
    wL_lawOf_551 post mc ms J J511 w u (nI n) least (nI r) x9 x10 x11 x12 x13 x14 x15 (nI k) x17 x18 kc ks hc sc lv cl pk pv oc a1 a2 a3 a4 a5 a6 a7 a8 a9 a10 a11 a12 a13 a14 a15 a16 a17 a18 a19 a20 a21 a22 a23 a24 a25 := by
  unfold wL_lawOf_551
  refine nm_r (e' := x15 + ln_su w u n k) (by rw [h18]) ?_
  refine ln_Wlookup (d := 0) hn (by decide) hk hW (fun hc sc lv cl pk pv oc a1 a2 a3 a4 a5 a6 a7 a8 a9 a10 a11 a12 a13 a14 a15 a16 a17 a18 a19 a20 a21 a22 a23 a24 a25 hW => br_t ?_ ?_)
  · rw [h18]; exact ln_lk0 w u n k
  refine ln_Wlookup (d := 2) hn (by decide) hk hW (fun hc sc lv cl pk pv oc a1 a2 a3 a4 a5 a6 a7 a8 a9 a10 a11 a12 a13 a14 a15 a16 a17 a18 a19 a20 a21 a22 a23 a24 a25 hW => br_t ?_ ?_)
  · rw [h18]; exact ln_lk2 w u least n hk
  refine ln_Wlookup (d := 3) hn (by decide) hk hW (fun hc sc lv cl pk pv oc a1 a2 a3 a4 a5 a6 a7 a8 a9 a10 a11 a12 a13 a14 a15 a16 a17 a18 a19 a20 a21 a22 a23 a24 a25 hW => br_t ?_ ?_)
  · rw [h17]; exact ln_lk3 w u least n hn hk
  refine ln_Wlookup (d := 4) hn (by decide) hk hW (fun hc sc lv cl pk pv oc a1 a2 a3 a4 a5 a6 a7 a8 a9 a10 a11 a12 a13 a14 a15 a16 a17 a18 a19 a20 a21 a22 a23 a24 a25 hW => br_t ?_ ?_)
  · rw [h17, h18]; exact ln_lk4 w u least n hn hk
  refine ln_Wlookup (d := 9) hn (by decide) hk hW (fun hc sc lv cl pk pv oc a1 a2 a3 a4 a5 a6 a7 a8 a9 a10 a11 a12 a13 a14 a15 a16 a17 a18 a19 a20 a21 a22 a23 a24 a25 hW => br_t ?_ ?_)
  · rw [h18]; exact ln_lk9 w u least n k
  exact nm_r (nI_1 k) (H hc sc lv cl pk pv oc a1 a2 a3 a4 a5 a6 a7 a8 a9 a10 a11 a12 a13 a14 a15 a16 a17 a18 a19 a20 a21 a22 a23 a24 a25 hW)
theorem ln_511 {x10 x11 x12 x13 x14 : Int32} (hr : r ≤ 2) (hn : n ≤ 24) (h10 : x10 = nI (ln_cn (ln_on w u) n)) (h11 : x11 = nI (ln_cn (ln_la w u n) n)) (h12 : x12 = ln_ss (fun k => if ln_la w u n k = true then ln_V u k else 0) n) (h13 : x13 = nI (ln_cn (ln_lo w u least n) n)) (h14 : x14 = nI (ln_cn (ln_mo u least) n)) (H : ∀ (hc sc lv cl pk pv oc : Int32) (a1 a2 a3 a4 a5 a6 a7 a8 a9 a10 a11 a12 a13 a14 a15 a16 a17 a18 a19 a20 a21 a22 a23 a24 a25 : Nat → Int32), ln_W w u least n (hc, sc, lv, cl, pk, pv, oc, a1, a2, a3, a4, a5, a6, a7, a8, a9, a10, a11, a12, a13, a14, a15, a16, a17, a18, a19, a20, a21, a22, a23, a24, a25) → J (nI (r + 1)) hc sc lv cl pk pv oc a1 a2 a3 a4 a5 a6 a7 a8 a9 a10 a11 a12 a13 a14 a15 a16 a17 a18 a19 a20 a21 a22 a23 a24 a25) :
    ∀ (c f k : Nat) (hc sc lv cl pk pv oc : Int32) (a1 a2 a3 a4 a5 a6 a7 a8 a9 a10 a11 a12 a13 a14 a15 a16 a17 a18 a19 a20 a21 a22 a23 a24 a25 : Nat → Int32), k + c = 16 → c < f → ln_W w u least n (hc, sc, lv, cl, pk, pv, oc, a1, a2, a3, a4, a5, a6, a7, a8, a9, a10, a11, a12, a13, a14, a15, a16, a17, a18, a19, a20, a21, a22, a23, a24, a25) → wL_lawOf_511 post mc ms J w u (nI n) least (nI r) x10 x11 x12 x13 x14 kc ks f (nI (ln_cn (ln_kc w u n) k)) (ln_ss (ln_su w u n) k) (nI k) hc sc lv cl pk pv oc a1 a2 a3 a4 a5 a6 a7 a8 a9 a10 a11 a12 a13 a14 a15 a16 a17 a18 a19 a20 a21 a22 a23 a24 a25 := by
  intro c
  induction c with
  | zero =>
    intro f k hc sc lv cl pk pv oc a1 a2 a3 a4 a5 a6 a7 a8 a9 a10 a11 a12 a13 a14 a15 a16 a17 a18 a19 a20 a21 a22 a23 a24 a25 hk hf hW
    obtain ⟨f, rfl⟩ : ∃ g, f = g + 1 := ⟨f - 1, by omega⟩
    have hk16 : k = 16 := by omega
    subst hk16
    refine br_t (by decide) ?_
    refine ln_Wcount (d := 1) hn (Or.inl (by decide)) hW (fun hc sc lv cl pk pv oc a1 a2 a3 a4 a5 a6 a7 a8 a9 a10 a11 a12 a13 a14 a15 a16 a17 a18 a19 a20 a21 a22 a23 a24 a25 hW => br_t (by rw [h14, ln_a1]) ?_)
    refine ln_Wcount (d := 2) hn (Or.inl (by decide)) hW (fun hc sc lv cl pk pv oc a1 a2 a3 a4 a5 a6 a7 a8 a9 a10 a11 a12 a13 a14 a15 a16 a17 a18 a19 a20 a21 a22 a23 a24 a25 hW => br_t (by rw [ln_a2 w u least n hn]) ?_)
    refine ln_Wcount (d := 4) hn (Or.inl (by decide)) hW (fun hc sc lv cl pk pv oc a1 a2 a3 a4 a5 a6 a7 a8 a9 a10 a11 a12 a13 a14 a15 a16 a17 a18 a19 a20 a21 a22 a23 a24 a25 hW => br_t (by rw [ln_a4 w u least n hn]) ?_)
    refine ln_Wcount (d := 5) hn (Or.inl (by decide)) hW (fun hc sc lv cl pk pv oc a1 a2 a3 a4 a5 a6 a7 a8 a9 a10 a11 a12 a13 a14 a15 a16 a17 a18 a19 a20 a21 a22 a23 a24 a25 hW => br_t (by rw [h10, ln_a5]) ?_)
    refine ln_Wcount (d := 6) hn (Or.inl (by decide)) hW (fun hc sc lv cl pk pv oc a1 a2 a3 a4 a5 a6 a7 a8 a9 a10 a11 a12 a13 a14 a15 a16 a17 a18 a19 a20 a21 a22 a23 a24 a25 hW => br_t (by rw [h13, ln_a6]) ?_)
    refine ln_Wcount (d := 7) hn (Or.inl (by decide)) hW (fun hc sc lv cl pk pv oc a1 a2 a3 a4 a5 a6 a7 a8 a9 a10 a11 a12 a13 a14 a15 a16 a17 a18 a19 a20 a21 a22 a23 a24 a25 hW => br_t (by rw [h11, ln_a7 w u least n hn]) ?_)
    refine ln_Wtotal (d := 7) hn (Or.inl (by decide)) hW (fun hc sc lv cl pk pv oc a1 a2 a3 a4 a5 a6 a7 a8 a9 a10 a11 a12 a13 a14 a15 a16 a17 a18 a19 a20 a21 a22 a23 a24 a25 hW => br_t (by rw [h12, ln_t7 w u least n hn]) ?_)
    refine ln_Wcount (d := 8) hn (Or.inl (by decide)) hW (fun hc sc lv cl pk pv oc a1 a2 a3 a4 a5 a6 a7 a8 a9 a10 a11 a12 a13 a14 a15 a16 a17 a18 a19 a20 a21 a22 a23 a24 a25 hW => br_t (by rw [ln_a8]) ?_)
    refine ln_Wcount (d := 9) hn (Or.inl (by decide)) hW (fun hc sc lv cl pk pv oc a1 a2 a3 a4 a5 a6 a7 a8 a9 a10 a11 a12 a13 a14 a15 a16 a17 a18 a19 a20 a21 a22 a23 a24 a25 hW => br_t (by rw [ln_a9]; exact (pk_mul 2 n).symm) ?_)
    refine ln_Wtotal (d := 2) hn (Or.inl (by decide)) hW (fun hc sc lv cl pk pv oc a1 a2 a3 a4 a5 a6 a7 a8 a9 a10 a11 a12 a13 a14 a15 a16 a17 a18 a19 a20 a21 a22 a23 a24 a25 hW => br_t (by rw [ln_t2]) ?_)
    refine ln_Wtotal (d := 3) hn (Or.inl (by decide)) hW (fun hc sc lv cl pk pv oc a1 a2 a3 a4 a5 a6 a7 a8 a9 a10 a11 a12 a13 a14 a15 a16 a17 a18 a19 a20 a21 a22 a23 a24 a25 hW => br_t (by rw [ln_t3]) ?_)
    by_cases hb : 12 < n
    · refine ln_WcountB (d := 10) hn hb (Or.inl rfl) hW (fun hc sc lv cl pk pv oc a1 a2 a3 a4 a5 a6 a7 a8 a9 a10 a11 a12 a13 a14 a15 a16 a17 a18 a19 a20 a21 a22 a23 a24 a25 hW => br_f ?_ ?_)
      · rw [ln_m4]
        exact nI_ge (b := 4 * n) (a := 48) (by omega) (by omega)
      · exact ln_792 hc sc lv cl pk pv oc a1 a2 a3 a4 a5 a6 a7 a8 a9 a10 a11 a12 a13 a14 a15 a16 a17 a18 a19 a20 a21 a22 a23 a24 a25 rfl hr hn rfl rfl hW H
    · have h48 : (4 : Int32) * nI n ≤ 48 := by
        rw [ln_m4]
        exact nI_le (b := 48) (by omega) (by decide)
      refine ln_Wcount (d := 10) hn (Or.inr ⟨by decide, by omega⟩) hW (fun hc sc lv cl pk pv oc a1 a2 a3 a4 a5 a6 a7 a8 a9 a10 a11 a12 a13 a14 a15 a16 a17 a18 a19 a20 a21 a22 a23 a24 a25 hW => br_t h48 ?_)
      exact ln_792 hc sc lv cl pk pv oc a1 a2 a3 a4 a5 a6 a7 a8 a9 a10 a11 a12 a13 a14 a15 a16 a17 a18 a19 a20 a21 a22 a23 a24 a25 (by rw [ln_a10, ln_m4]) hr hn rfl rfl hW H
  | succ c ih =>
    intro f k hc sc lv cl pk pv oc a1 a2 a3 a4 a5 a6 a7 a8 a9 a10 a11 a12 a13 a14 a15 a16 a17 a18 a19 a20 a21 a22 a23 a24 a25 hk hf hW
    obtain ⟨f, rfl⟩ : ∃ g, f = g + 1 := ⟨f - 1, by omega⟩
    have hle := ln_cn_le (ln_hp w u k (-1000)) n
    refine pk_le 16 k (fun z => absurd z (by omega)) (fun _ => ?_)
    refine ln_having (by omega) (by omega) (ln_sumOf (by omega) (by omega) (pk_le (ln_cn (ln_hp w u k (-1000)) n) 0 (fun z => ?_) (fun z => nm_r (nI_1 _) ?_)))
    · refine ln_551 hc sc lv cl pk pv oc a1 a2 a3 a4 a5 a6 a7 a8 a9 a10 a11 a12 a13 a14 a15 a16 a17 a18 a19 a20 a21 a22 a23 a24 a25 (by omega) hn rfl rfl hW (fun hc sc lv cl pk pv oc a1 a2 a3 a4 a5 a6 a7 a8 a9 a10 a11 a12 a13 a14 a15 a16 a17 a18 a19 a20 a21 a22 a23 a24 a25 hW => ?_)
      have G := ih f (k + 1) hc sc lv cl pk pv oc a1 a2 a3 a4 a5 a6 a7 a8 a9 a10 a11 a12 a13 a14 a15 a16 a17 a18 a19 a20 a21 a22 a23 a24 a25 (by omega) (by omega) hW
      rw [ln_cn_f (by unfold ln_kc; rw [Nat.le_zero.mp z]; rfl), ln_ss] at G
      exact G
    · refine ln_551 hc sc lv cl pk pv oc a1 a2 a3 a4 a5 a6 a7 a8 a9 a10 a11 a12 a13 a14 a15 a16 a17 a18 a19 a20 a21 a22 a23 a24 a25 (by omega) hn rfl rfl hW (fun hc sc lv cl pk pv oc a1 a2 a3 a4 a5 a6 a7 a8 a9 a10 a11 a12 a13 a14 a15 a16 a17 a18 a19 a20 a21 a22 a23 a24 a25 hW => ?_)
      have G := ih f (k + 1) hc sc lv cl pk pv oc a1 a2 a3 a4 a5 a6 a7 a8 a9 a10 a11 a12 a13 a14 a15 a16 a17 a18 a19 a20 a21 a22 a23 a24 a25 (by omega) (by omega) hW
      rw [ln_cn_t (by unfold ln_kc; simp; omega), ln_ss] at G
      exact G
theorem ln_361 (hr : r ≤ 2) (hn : n ≤ 24) (H : ∀ (hc sc lv cl pk pv oc : Int32) (a1 a2 a3 a4 a5 a6 a7 a8 a9 a10 a11 a12 a13 a14 a15 a16 a17 a18 a19 a20 a21 a22 a23 a24 a25 : Nat → Int32), ln_W w u least n (hc, sc, lv, cl, pk, pv, oc, a1, a2, a3, a4, a5, a6, a7, a8, a9, a10, a11, a12, a13, a14, a15, a16, a17, a18, a19, a20, a21, a22, a23, a24, a25) → J (nI (r + 1)) hc sc lv cl pk pv oc a1 a2 a3 a4 a5 a6 a7 a8 a9 a10 a11 a12 a13 a14 a15 a16 a17 a18 a19 a20 a21 a22 a23 a24 a25) :
    ∀ (c f k : Nat) (hc sc lv cl pk pv oc : Int32) (a1 a2 a3 a4 a5 a6 a7 a8 a9 a10 a11 a12 a13 a14 a15 a16 a17 a18 a19 a20 a21 a22 a23 a24 a25 : Nat → Int32), k + c = n → c < f → ln_W w u least n (hc, sc, lv, cl, pk, pv, oc, a1, a2, a3, a4, a5, a6, a7, a8, a9, a10, a11, a12, a13, a14, a15, a16, a17, a18, a19, a20, a21, a22, a23, a24, a25) → wL_lawOf_361 post mc ms J w u (nI n) least (nI r) 0 kc ks f (nI (ln_cn (ln_on w u) k)) (nI (ln_cn (ln_la w u n) k)) (ln_ss (fun k => if ln_la w u n k = true then ln_V u k else 0) k) (nI (ln_cn (ln_lo w u least n) k)) (nI (ln_cn (ln_mo u least) k)) (nI k) hc sc lv cl pk pv oc a1 a2 a3 a4 a5 a6 a7 a8 a9 a10 a11 a12 a13 a14 a15 a16 a17 a18 a19 a20 a21 a22 a23 a24 a25 := by
  intro c
  induction c with
  | zero =>
    intro f k hc sc lv cl pk pv oc a1 a2 a3 a4 a5 a6 a7 a8 a9 a10 a11 a12 a13 a14 a15 a16 a17 a18 a19 a20 a21 a22 a23 a24 a25 hk hf hW
    obtain ⟨f, rfl⟩ : ∃ g, f = g + 1 := ⟨f - 1, by omega⟩
    have hkn : k = n := by omega
    subst hkn
    refine pk_le k k (fun _ => ⟨17, ?_⟩) (fun z => absurd z (by omega))
    exact ln_511 hr hn rfl rfl rfl rfl rfl H 16 17 0 hc sc lv cl pk pv oc a1 a2 a3 a4 a5 a6 a7 a8 a9 a10 a11 a12 a13 a14 a15 a16 a17 a18 a19 a20 a21 a22 a23 a24 a25 (by omega) (by omega) hW
  | succ c ih =>
    intro f k hc sc lv cl pk pv oc a1 a2 a3 a4 a5 a6 a7 a8 a9 a10 a11 a12 a13 a14 a15 a16 a17 a18 a19 a20 a21 a22 a23 a24 a25 hk hf hW
    obtain ⟨f, rfl⟩ : ∃ g, f = g + 1 := ⟨f - 1, by omega⟩
    have hkn : k < n := by omega
    have hK := (ln_K_e w k).2
    have hpl := ln_cn_le (ln_pp w u k) n
    have hbl := ln_cn_le (ln_bp w u k) n
    have hhl := ln_cn_le (ln_hp w u (ln_K w k) least) n
    have hplt : ln_cn (ln_pp w u k) n < n := by
      have := ln_cn_lt (p := ln_pp w u k) (q := fun _ => true) hkn (fun i _ _ => rfl) (by
        cases h : ln_pp w u k k with
        | false => rfl
        | true =>
          have := (ln_pp_e w u k k).mp h
          omega) rfl
      have h2 := ln_cn_le (fun _ => true) n
      omega
    have hlen : (ln_LF w u least n 0).length = n := ln_LRlen w u n
    -- the tail: once, last, lastSum, lone
    have T : ∀ (x14 : Int32) (hc sc lv cl pk pv oc : Int32) (a1 a2 a3 a4 a5 a6 a7 a8 a9 a10 a11 a12 a13 a14 a15 a16 a17 a18 a19 a20 a21 a22 a23 a24 a25 : Nat → Int32), ln_W w u least n (hc, sc, lv, cl, pk, pv, oc, a1, a2, a3, a4, a5, a6, a7, a8, a9, a10, a11, a12, a13, a14, a15, a16, a17, a18, a19, a20, a21, a22, a23, a24, a25) → x14 = nI (ln_cn (ln_mo u least) (k + 1)) →
        wL_lawOf_433 post mc ms J (wL_lawOf_361 post mc ms J w u (nI n) least (nI r) 0 kc ks f) w u (nI n) least (nI r) 0 (nI (ln_cn (ln_on w u) k)) (nI (ln_cn (ln_la w u n) k)) (ln_ss (fun k => if ln_la w u n k = true then ln_V u k else 0) k) (nI (ln_cn (ln_lo w u least n) k)) x14 (nI k) (nI (ln_K w k)) (ln_V u k) kc ks hc sc lv cl pk pv oc a1 a2 a3 a4 a5 a6 a7 a8 a9 a10 a11 a12 a13 a14 a15 a16 a17 a18 a19 a20 a21 a22 a23 a24 a25 := by
      intro x14 hc sc lv cl pk pv oc a1 a2 a3 a4 a5 a6 a7 a8 a9 a10 a11 a12 a13 a14 a15 a16 a17 a18 a19 a20 a21 a22 a23 a24 a25 hW hx14
      subst hx14
      have G := ih f (k + 1) hc sc lv cl pk pv oc a1 a2 a3 a4 a5 a6 a7 a8 a9 a10 a11 a12 a13 a14 a15 a16 a17 a18 a19 a20 a21 a22 a23 a24 a25 (by omega) (by omega) hW
      have T482 : ∀ x10 x11 x12 : Int32, x10 = nI (ln_cn (ln_on w u) (k + 1)) → x11 = nI (ln_cn (ln_la w u n) (k + 1)) → x12 = ln_ss (fun k => if ln_la w u n k = true then ln_V u k else 0) (k + 1) →
          wL_lawOf_482 post mc ms J (wL_lawOf_361 post mc ms J w u (nI n) least (nI r) 0 kc ks f) w u (nI n) least (nI r) 0 x10 x11 x12 (nI (ln_cn (ln_lo w u least n) k)) (nI (ln_cn (ln_mo u least) (k + 1))) (nI k) (nI (ln_K w k)) kc ks hc sc lv cl pk pv oc a1 a2 a3 a4 a5 a6 a7 a8 a9 a10 a11 a12 a13 a14 a15 a16 a17 a18 a19 a20 a21 a22 a23 a24 a25 := by
        intro x10 x11 x12 e10 e11 e12
        subst e10 e11 e12
        unfold wL_lawOf_482
        refine ln_having (by omega) (by omega) (pk_eq (ln_cn (ln_hp w u (ln_K w k) least) n) 0 (fun z => nm_r (nI_1 _) (nm_r (nI_1 k) ?_)) (fun z => nm_r (nI_1 k) ?_))
        · rw [ln_cn_t (p := ln_lo w u least n) (by unfold ln_lo; rw [z]; rfl)] at G
          exact G
        · rw [ln_cn_f (p := ln_lo w u least n) (by unfold ln_lo; simpa using z)] at G
          exact G
      have T446 : ∀ x10 : Int32, x10 = nI (ln_cn (ln_on w u) (k + 1)) →
          wL_lawOf_446 post mc ms J (wL_lawOf_361 post mc ms J w u (nI n) least (nI r) 0 kc ks f) w u (nI n) least (nI r) 0 x10 (nI (ln_cn (ln_la w u n) k)) (ln_ss (fun k => if ln_la w u n k = true then ln_V u k else 0) k) (nI (ln_cn (ln_lo w u least n) k)) (nI (ln_cn (ln_mo u least) (k + 1))) (nI k) (nI (ln_K w k)) (ln_V u k) kc ks hc sc lv cl pk pv oc a1 a2 a3 a4 a5 a6 a7 a8 a9 a10 a11 a12 a13 a14 a15 a16 a17 a18 a19 a20 a21 a22 a23 a24 a25 := by
        intro x10 e10
        unfold wL_lawOf_446
        refine ln_behind (by omega) (by omega) (pk_le 5 (ln_cn (ln_bp w u k) n) (fun z => ?_) (fun z => nm_e ?_))
        · have hl : ln_la w u n k = false := by unfold ln_la; simpa using z
          unfold wL_lawOf_462
          refine ln_behind (by omega) (by omega) (pk_le 5 (ln_cn (ln_bp w u k) n) (fun _ => ?_) (fun z2 => absurd z2 (by omega)))
          exact T482 _ _ _ e10 (by rw [ln_cn_f hl]) (by rw [ln_ss, hl]; simp)
        · have hl : ln_la w u n k = true := by unfold ln_la; simp; omega
          unfold wL_lawOf_462
          refine ln_behind (by omega) (by omega) (pk_le 5 (ln_cn (ln_bp w u k) n) (fun z2 => absurd z2 (by omega)) (fun _ => nm_e ?_))
          exact T482 _ _ _ e10 (by rw [ln_cn_t hl, nI_1]) (by rw [ln_ss, hl]; simp)
      unfold wL_lawOf_433
      refine ln_again (by omega) (fun z => br_f (by decide) ?_) (fun z => br_t rfl (nm_e ?_))
      · exact T446 _ (by rw [ln_cn_f (p := ln_on w u) (by unfold ln_on; simpa using z)])
      · exact T446 _ (by rw [ln_cn_t (p := ln_on w u) (by unfold ln_on; rw [z]; rfl), nI_1])
    refine pk_le n k (fun z => absurd z (by omega)) (fun _ => ?_)
    refine ln_key (ln_value (ln_place (by omega) (by omega) ?_))
    refine ln_WkeyOf (d := 0) hn (Or.inl (by decide)) (by omega) hW (fun O t h1 h2 h3 hc sc lv cl pk pv oc a1 a2 a3 a4 a5 a6 a7 a8 a9 a10 a11 a12 a13 a14 a15 a16 a17 a18 a19 a20 a21 a22 a23 a24 a25 hW => br_t ?_ ?_) (fun hl hc sc lv cl pk pv oc a1 a2 a3 a4 a5 a6 a7 a8 a9 a10 a11 a12 a13 a14 a15 a16 a17 a18 a19 a20 a21 a22 a23 a24 a25 hW => absurd hl (by omega))
    · rw [ln_place_get hkn h1 h2 h3]
    · refine ln_WvalueOf (d := 0) hn (by decide) (by omega) hW (fun O t h1 h2 h3 hc sc lv cl pk pv oc a1 a2 a3 a4 a5 a6 a7 a8 a9 a10 a11 a12 a13 a14 a15 a16 a17 a18 a19 a20 a21 a22 a23 a24 a25 hW => br_t ?_ (br_c (fun z => ?_) (fun z => nm_e ?_)))
      · rw [ln_place_get hkn h1 h2 h3]
      · exact T _ hc sc lv cl pk pv oc a1 a2 a3 a4 a5 a6 a7 a8 a9 a10 a11 a12 a13 a14 a15 a16 a17 a18 a19 a20 a21 a22 a23 a24 a25 hW (by rw [ln_cn_f (p := ln_mo u least) (by unfold ln_mo; simpa using z)])
      · exact T _ hc sc lv cl pk pv oc a1 a2 a3 a4 a5 a6 a7 a8 a9 a10 a11 a12 a13 a14 a15 a16 a17 a18 a19 a20 a21 a22 a23 a24 a25 hW (by rw [ln_cn_t (p := ln_mo u least) (by unfold ln_mo; simpa using z), nI_1])
end
end
section
/-! the second plan; the law's head and tail -/
theorem ln_Qconv {R : List ln_T} {P P' : Nat → ln_PE} {F F' : Nat → List ln_T} {S : Nat} {kp : Nat → Bool} {Bg Bg' : Nat → Prop} (hS : 0 < S) (hP : ∀ d, d < S → P' d = P d) (hF : ∀ d, d < S → F' d = F d) (hB : ∀ j, Bg j → Bg' j) {s : St2} (hQ : ln_Q R P F S kp Bg s) : ln_Q R P' F' S kp Bg' s := by
  obtain ⟨hc, sc, lv, cl, pk, pv, oc, a1, a2, a3, a4, a5, a6, a7, a8, a9, a10, a11, a12, a13, a14, a15, a16, a17, a18, a19, a20, a21, a22, a23, a24, a25⟩ := s
  obtain ⟨m1, m2, m3, m4, m5, L, T, m6, m7⟩ := hQ
  obtain ⟨d1, d2, d3, d4, d5⟩ := m6
  refine ⟨m1, fun d hd => ?_, m3, m4, fun j hj h => hB j (m5 j hj h), L, T, ⟨d1, d2, fun d hd q hq => ?_, ?_, d5⟩, m7⟩
  · rw [hP d hd]; exact m2 d hd
  · rw [hF d hd]; exact d3 d hd q hq
  · rw [hF 0 hS]; exact d4
def ln_B2 (k j : Nat) : Prop := j = 10 ∨ k ≤ j
def ln_W2 (w u least : Int32) (n S : Nat) (s : St2) : Prop := ∃ kp, ln_kpo kp ∧ ln_Q (ln_LR w u n) (ln_P2 least) (ln_F2 (ln_LR w u n) least) S kp (ln_B2 S) s
theorem ln_st2 (w u least : Int32) (n : Nat) {S : Nat} (hS : S ≤ 16) (h0 : 0 < S) {kp : Nat → Bool} (hk : ln_kpo kp) : ln_st0 (ln_LR w u n) (ln_P2 least) (ln_F2 (ln_LR w u n) least) S kp := ⟨ln_wf2 least hS h0, ln_fam2 (ln_LRbd w u n) least, hk.1⟩
theorem ln_only {least : Int32} {N : Nat → Nat} {k : Nat} (h11 : 11 ≤ k) (hk : k < 16) (hu : ln_upb (ln_P2 least) N k) : ∀ m j, k - j ≤ m → j ≤ k → N j ≠ 0 → j = k ∨ j = 0 := by
  have hwf := ln_wf2 least (S := 16) (by decide) (by decide)
  intro m
  induction m with
  | zero => intro j h1 h2 _; left; omega
  | succ m ih =>
    intro j h1 h2 hN
    rcases hu j (by omega) hN with h | ⟨i, i1, i2, i3, i4⟩
    · exact Or.inl h
    · obtain ⟨k1, k2, k3, k4, k5⟩ := hwf.2.2.2 i (by omega)
      have hi0 : i ≠ 0 := fun h => i3 (by rw [h]; rfl)
      have hji : j < i := by
        rcases i4 with h | ⟨h, h'⟩
        · have := (k3 hi0).2; omega
        · have := (k4 h).1; omega
      rcases ih i (by omega) i1 i2 with h | h
      · subst h
        rcases i4 with h | ⟨h, h'⟩
        · rw [ln_P2_hi least h11] at h
          exact Or.inr h
        · rw [ln_P2_hi least h11] at h
          exact ln_no rfl h
      · exact absurd h hi0
theorem ln_lenS (w u : Int32) (n d : Nat) : ((ln_LR w u n).flatMap (ln_st 1 0 (nI d))).length = n := by
  unfold ln_LR
  rw [ln_len_fm, ln_nn_c (f := fun i => (ln_st 1 0 (nI d) (ln_tr (ln_K w) (ln_V u) i)).length) (g := fun _ => 1) (fun i _ => rfl), ln_nn_k, Nat.one_mul]
theorem ln_deriveX6 {post : Int32 → St2 → Prop} {S : Nat} (hc sc lv cl pk pv oc : Int32) (a1 a2 a3 a4 a5 a6 a7 a8 a9 a10 a11 a12 a13 a14 a15 a16 a17 a18 a19 a20 a21 a22 a23 a24 a25 : Nat → Int32) (hs : sc = nI S) (hS : S < 16) (h0 : 0 < S) (H : post (-1) (hc, sc, lv, cl, pk, pv, oc, a1, a2, a3, a4, a5, a6, a7, a8, a9, a10, a11, a12, a13, a14, a15, a16, a17, a18, a19, a20, a21, a22, a23, a24, a25)) : wpX_derive post (hc, sc, lv, cl, pk, pv, oc, a1, a2, a3, a4, a5, a6, a7, a8, a9, a10, a11, a12, a13, a14, a15, a16, a17, a18, a19, a20, a21, a22, a23, a24, a25) 6 0 4 0 := by
  unfold wpX_derive
  refine pk_lt S 16 (fun _ => br_f (by decide) (br_t (by decide) (br_f (by decide) ?_))) (fun z => absurd z (by omega)) (hx := hs)
  refine ln_isSet hc sc lv cl pk pv oc a1 a2 a3 a4 a5 a6 a7 a8 a9 a10 a11 a12 a13 a14 a15 a16 a17 a18 a19 a20 a21 a22 a23 a24 a25 (d := 0) hs (by omega) (by omega) (fun _ => br_f (by decide) ?_) (fun z => absurd z (by omega))
  unfold wX_derive_38
  refine ln_hasTwo hc sc lv cl pk pv oc a1 a2 a3 a4 a5 a6 a7 a8 a9 a10 a11 a12 a13 a14 a15 a16 a17 a18 a19 a20 a21 a22 a23 a24 a25 (k := 6) rfl (by omega) (fun z => absurd z (by decide)) (fun _ => br_t rfl ?_)
  unfold wX_derive_56
  refine br_f (by decide) (br_t rfl ?_)
  unfold wX_derive_67
  exact br_f (by decide) (br_f (by decide) H)
theorem ln_deriveX10 {post : Int32 → St2 → Prop} {S : Nat} (hc sc lv cl pk pv oc : Int32) (a1 a2 a3 a4 a5 a6 a7 a8 a9 a10 a11 a12 a13 a14 a15 a16 a17 a18 a19 a20 a21 a22 a23 a24 a25 : Nat → Int32) (hs : sc = nI S) (hS : S < 16) (h0 : 0 < S) (H : post (-1) (hc, sc, lv, cl, pk, pv, oc, a1, a2, a3, a4, a5, a6, a7, a8, a9, a10, a11, a12, a13, a14, a15, a16, a17, a18, a19, a20, a21, a22, a23, a24, a25)) : wpX_derive post (hc, sc, lv, cl, pk, pv, oc, a1, a2, a3, a4, a5, a6, a7, a8, a9, a10, a11, a12, a13, a14, a15, a16, a17, a18, a19, a20, a21, a22, a23, a24, a25) 10 0 9 0 := by
  unfold wpX_derive
  refine pk_lt S 16 (fun _ => br_f (by decide) (br_t (by decide) (br_f (by decide) ?_))) (fun z => absurd z (by omega)) (hx := hs)
  refine ln_isSet hc sc lv cl pk pv oc a1 a2 a3 a4 a5 a6 a7 a8 a9 a10 a11 a12 a13 a14 a15 a16 a17 a18 a19 a20 a21 a22 a23 a24 a25 (d := 0) hs (by omega) (by omega) (fun _ => br_f (by decide) ?_) (fun z => absurd z (by omega))
  unfold wX_derive_38
  refine ln_hasTwo hc sc lv cl pk pv oc a1 a2 a3 a4 a5 a6 a7 a8 a9 a10 a11 a12 a13 a14 a15 a16 a17 a18 a19 a20 a21 a22 a23 a24 a25 (k := 10) rfl (by omega) (fun z => absurd z (by decide)) (fun _ => br_t rfl ?_)
  unfold wX_derive_56
  refine br_f (by decide) (br_f (by decide) ?_)
  unfold wX_derive_78
  exact br_t rfl (br_f (by decide) (br_f (by decide) H))
theorem ln_deriveX7 {post : Int32 → St2 → Prop} (hc sc lv cl pk pv oc : Int32) (a1 a2 a3 a4 a5 a6 a7 a8 a9 a10 a11 a12 a13 a14 a15 a16 a17 a18 a19 a20 a21 a22 a23 a24 a25 : Nat → Int32) (hs : sc = nI 15) (H : post (-1) (hc, sc, lv, cl, pk, pv, oc, a1, a2, a3, a4, a5, a6, a7, a8, a9, a10, a11, a12, a13, a14, a15, a16, a17, a18, a19, a20, a21, a22, a23, a24, a25)) : wpX_derive post (hc, sc, lv, cl, pk, pv, oc, a1, a2, a3, a4, a5, a6, a7, a8, a9, a10, a11, a12, a13, a14, a15, a16, a17, a18, a19, a20, a21, a22, a23, a24, a25) 7 0 15 0 := by
  unfold wpX_derive
  refine pk_lt 15 16 (fun _ => br_f (by decide) (br_t (by decide) (br_f (by decide) ?_))) (fun z => absurd z (by omega)) (hx := hs)
  refine ln_isSet hc sc lv cl pk pv oc a1 a2 a3 a4 a5 a6 a7 a8 a9 a10 a11 a12 a13 a14 a15 a16 a17 a18 a19 a20 a21 a22 a23 a24 a25 (d := 0) hs (by omega) (by omega) (fun _ => br_f (by decide) ?_) (fun z => absurd z (by omega))
  unfold wX_derive_38
  refine ln_hasTwo hc sc lv cl pk pv oc a1 a2 a3 a4 a5 a6 a7 a8 a9 a10 a11 a12 a13 a14 a15 a16 a17 a18 a19 a20 a21 a22 a23 a24 a25 (k := 7) rfl (by omega) (fun _ => br_f (by decide) ?_) (fun z => absurd z (by decide))
  exact ln_isSet hc sc lv cl pk pv oc a1 a2 a3 a4 a5 a6 a7 a8 a9 a10 a11 a12 a13 a14 a15 a16 a17 a18 a19 a20 a21 a22 a23 a24 a25 (d := 15) hs (by omega) (by omega) (fun z => absurd z (by omega)) (fun _ => br_t rfl H)
section
variable {post : Int32 → St0 → Prop} {mc ms kc ks : Nat} {w u least : Int32} {n : Nat}
theorem ln_1005 (hn : n ≤ 24) (hpost : post 1 ()) : ∀ (c f k : Nat) (hc sc lv cl pk pv oc : Int32) (a1 a2 a3 a4 a5 a6 a7 a8 a9 a10 a11 a12 a13 a14 a15 a16 a17 a18 a19 a20 a21 a22 a23 a24 a25 : Nat → Int32), k + c = 16 → c < f → 11 ≤ k → ln_W2 w u least n k (hc, sc, lv, cl, pk, pv, oc, a1, a2, a3, a4, a5, a6, a7, a8, a9, a10, a11, a12, a13, a14, a15, a16, a17, a18, a19, a20, a21, a22, a23, a24, a25) → wL_lawOf_1005 post mc ms (nI n) kc ks f (nI k) hc sc lv cl pk pv oc a1 a2 a3 a4 a5 a6 a7 a8 a9 a10 a11 a12 a13 a14 a15 a16 a17 a18 a19 a20 a21 a22 a23 a24 a25 := by
  intro c
  induction c with
  | zero =>
    intro f k hc sc lv cl pk pv oc a1 a2 a3 a4 a5 a6 a7 a8 a9 a10 a11 a12 a13 a14 a15 a16 a17 a18 a19 a20 a21 a22 a23 a24 a25 hk hf h11 hW
    obtain ⟨f, rfl⟩ : ∃ g, f = g + 1 := ⟨f - 1, by omega⟩
    have hk16 : k = 16 := by omega
    subst hk16
    obtain ⟨kp, hkp, hQ⟩ := hW
    refine br_t (by decide) ?_
    refine ln_deriveF hc sc lv cl pk pv oc a1 a2 a3 a4 a5 a6 a7 a8 a9 a10 a11 a12 a13 a14 a15 a16 a17 a18 a19 a20 a21 a22 a23 a24 a25 hQ.1 (br_t rfl ?_)
    refine ln_deriveF hc sc lv cl pk pv oc a1 a2 a3 a4 a5 a6 a7 a8 a9 a10 a11 a12 a13 a14 a15 a16 a17 a18 a19 a20 a21 a22 a23 a24 a25 hQ.1 (br_t rfl ?_)
    refine ln_Qdrop (S := 15) (by decide) (by decide) (hc, sc, lv, cl, pk, pv, oc, a1, a2, a3, a4, a5, a6, a7, a8, a9, a10, a11, a12, a13, a14, a15, a16, a17, a18, a19, a20, a21, a22, a23, a24, a25) hQ (fun s hQ => ?_)
    obtain ⟨hc, sc, lv, cl, pk, pv, oc, a1, a2, a3, a4, a5, a6, a7, a8, a9, a10, a11, a12, a13, a14, a15, a16, a17, a18, a19, a20, a21, a22, a23, a24, a25⟩ := s
    refine br_t rfl ?_
    refine ln_deriveX6 (S := 15) hc sc lv cl pk pv oc a1 a2 a3 a4 a5 a6 a7 a8 a9 a10 a11 a12 a13 a14 a15 a16 a17 a18 a19 a20 a21 a22 a23 a24 a25 hQ.1 (by decide) (by decide) (br_t rfl ?_)
    refine ln_deriveX10 (S := 15) hc sc lv cl pk pv oc a1 a2 a3 a4 a5 a6 a7 a8 a9 a10 a11 a12 a13 a14 a15 a16 a17 a18 a19 a20 a21 a22 a23 a24 a25 hQ.1 (by decide) (by decide) (br_t rfl ?_)
    exact ln_deriveX7 hc sc lv cl pk pv oc a1 a2 a3 a4 a5 a6 a7 a8 a9 a10 a11 a12 a13 a14 a15 a16 a17 a18 a19 a20 a21 a22 a23 a24 a25 hQ.1 (br_t rfl hpost)
  | succ c ih =>
    intro f k hc sc lv cl pk pv oc a1 a2 a3 a4 a5 a6 a7 a8 a9 a10 a11 a12 a13 a14 a15 a16 a17 a18 a19 a20 a21 a22 a23 a24 a25 hk hf h11 hW
    obtain ⟨f, rfl⟩ : ∃ g, f = g + 1 := ⟨f - 1, by omega⟩
    obtain ⟨kp, hkp, hQ⟩ := hW
    refine pk_le 16 k (fun z => absurd z (by omega)) (fun _ => ?_)
    refine ln_Qderive (k := 1) (x := 0) (S := k) (P' := ln_P2 least) (F' := ln_F2 (ln_LR w u n) least) (Bg' := ln_B2 (k + 1)) (by omega) (by omega) (by decide) (by decide) (by omega) (fun z => ln_no rfl z) (fun z => absurd z (by decide)) (fun z => absurd z (by decide)) (fun j _ => rfl) (ln_P2_hi least h11) (fun j _ => rfl) (fun j hj hB => ?_) (hkp.2.2 k h11) (hc, sc, lv, cl, pk, pv, oc, a1, a2, a3, a4, a5, a6, a7, a8, a9, a10, a11, a12, a13, a14, a15, a16, a17, a18, a19, a20, a21, a22, a23, a24, a25) hQ (fun s hQ => ?_)
    · unfold ln_B2 at hB ⊢
      omega
    obtain ⟨hc, sc, lv, cl, pk, pv, oc, a1, a2, a3, a4, a5, a6, a7, a8, a9, a10, a11, a12, a13, a14, a15, a16, a17, a18, a19, a20, a21, a22, a23, a24, a25⟩ := s
    refine br_t rfl ?_
    have hlk : (ln_F2 (ln_LR w u n) least k).length ≤ 48 := by
      rw [ln_F2_hi _ _ h11, ln_lenS]
      omega
    have hl0 : (ln_F2 (ln_LR w u n) least 0).length ≤ 48 := by
      rw [ln_F2_lo _ _ (by decide)]
      show (ln_LR w u n).length ≤ 48
      rw [ln_LRlen]
      omega
    refine ln_total (ln_st2 w u least n (S := k + 1) (by omega) (by omega) hkp) (hc, sc, lv, cl, pk, pv, oc, a1, a2, a3, a4, a5, a6, a7, a8, a9, a10, a11, a12, a13, a14, a15, a16, a17, a18, a19, a20, a21, a22, a23, a24, a25) hQ (by omega) (fun N hu j hj hN => ?_) (fun hB => ?_) (fun s hQ => ?_)
    · rcases ln_only h11 (by omega) hu (k - j) j (Nat.le_refl _) hj hN with h | h
      · rw [h]; exact hlk
      · rw [h]; exact hl0
    · unfold ln_B2 at hB
      omega
    · obtain ⟨hc, sc, lv, cl, pk, pv, oc, a1, a2, a3, a4, a5, a6, a7, a8, a9, a10, a11, a12, a13, a14, a15, a16, a17, a18, a19, a20, a21, a22, a23, a24, a25⟩ := s
      refine br_t (by rw [ln_F2_hi _ _ h11, ln_tS]) (nm_r (nI_1 k) ?_)
      exact ih f (k + 1) hc sc lv cl pk pv oc a1 a2 a3 a4 a5 a6 a7 a8 a9 a10 a11 a12 a13 a14 a15 a16 a17 a18 a19 a20 a21 a22 a23 a24 a25 (by omega) (by omega) (by omega) ⟨kp, hkp, hQ⟩
theorem ln_334 (hn : n ≤ 24) (hpost : post 1 ()) : ∀ (c f r : Nat) (hc sc lv cl pk pv oc : Int32) (a1 a2 a3 a4 a5 a6 a7 a8 a9 a10 a11 a12 a13 a14 a15 a16 a17 a18 a19 a20 a21 a22 a23 a24 a25 : Nat → Int32), r + c = 3 → c < f → ln_W w u least n (hc, sc, lv, cl, pk, pv, oc, a1, a2, a3, a4, a5, a6, a7, a8, a9, a10, a11, a12, a13, a14, a15, a16, a17, a18, a19, a20, a21, a22, a23, a24, a25) → wL_lawOf_334 post mc ms w u (nI n) least kc ks f (nI r) hc sc lv cl pk pv oc a1 a2 a3 a4 a5 a6 a7 a8 a9 a10 a11 a12 a13 a14 a15 a16 a17 a18 a19 a20 a21 a22 a23 a24 a25 := by
  intro c
  induction c with
  | zero =>
    intro f r hc sc lv cl pk pv oc a1 a2 a3 a4 a5 a6 a7 a8 a9 a10 a11 a12 a13 a14 a15 a16 a17 a18 a19 a20 a21 a22 a23 a24 a25 hr hf hW
    obtain ⟨f, rfl⟩ : ∃ g, f = g + 1 := ⟨f - 1, by omega⟩
    have hr3 : r = 3 := by omega
    subst hr3
    obtain ⟨kp, hkp, hQ⟩ := hW
    refine br_t (by decide) ?_
    refine ln_Qdrop (S := 11) (by decide) (by decide) (hc, sc, lv, cl, pk, pv, oc, a1, a2, a3, a4, a5, a6, a7, a8, a9, a10, a11, a12, a13, a14, a15, a16, a17, a18, a19, a20, a21, a22, a23, a24, a25) hQ (fun s hQ => ?_)
    have hQ2 : ln_Q (ln_LR w u n) (ln_P2 least) (ln_F2 (ln_LR w u n) least) 11 kp (ln_B2 11) s := by
      refine ln_Qconv (by decide) (fun d hd => ln_P2_lo least hd) (fun d hd => ln_F2_lo _ least hd) (fun j hB => ?_) hQ
      unfold ln_Bg at hB
      unfold ln_B2
      omega
    obtain ⟨hc, sc, lv, cl, pk, pv, oc, a1, a2, a3, a4, a5, a6, a7, a8, a9, a10, a11, a12, a13, a14, a15, a16, a17, a18, a19, a20, a21, a22, a23, a24, a25⟩ := s
    refine br_t rfl ?_
    refine ln_countN (d := 11) (ln_st2 w u least n (S := 11) (by decide) (by decide) hkp) (hc, sc, lv, cl, pk, pv, oc, a1, a2, a3, a4, a5, a6, a7, a8, a9, a10, a11, a12, a13, a14, a15, a16, a17, a18, a19, a20, a21, a22, a23, a24, a25) hQ2 (by decide) (by decide) (br_t rfl ⟨6, ?_⟩)
    exact ln_1005 hn hpost 5 6 11 hc sc lv cl pk pv oc a1 a2 a3 a4 a5 a6 a7 a8 a9 a10 a11 a12 a13 a14 a15 a16 a17 a18 a19 a20 a21 a22 a23 a24 a25 (by decide) (by decide) (by decide) ⟨kp, hkp, hQ2⟩
  | succ c ih =>
    intro f r hc sc lv cl pk pv oc a1 a2 a3 a4 a5 a6 a7 a8 a9 a10 a11 a12 a13 a14 a15 a16 a17 a18 a19 a20 a21 a22 a23 a24 a25 hr hf hW
    obtain ⟨f, rfl⟩ : ∃ g, f = g + 1 := ⟨f - 1, by omega⟩
    refine pk_le 3 r (fun z => absurd z (by omega)) (fun _ => ⟨n + 1, ?_⟩)
    exact ln_361 (by omega) hn (fun hc sc lv cl pk pv oc a1 a2 a3 a4 a5 a6 a7 a8 a9 a10 a11 a12 a13 a14 a15 a16 a17 a18 a19 a20 a21 a22 a23 a24 a25 hW => ih f (r + 1) hc sc lv cl pk pv oc a1 a2 a3 a4 a5 a6 a7 a8 a9 a10 a11 a12 a13 a14 a15 a16 a17 a18 a19 a20 a21 a22 a23 a24 a25 (by omega) (by omega) hW) n (n + 1) 0 hc sc lv cl pk pv oc a1 a2 a3 a4 a5 a6 a7 a8 a9 a10 a11 a12 a13 a14 a15 a16 a17 a18 a19 a20 a21 a22 a23 a24 a25 (by omega) (by omega) hW
def ln_WS (w u least : Int32) (n S : Nat) (s : St2) : Prop := ln_Q (ln_LR w u n) (ln_P1 least) (ln_LF w u least n) S (fun _ => false) (ln_Bg n) s
theorem ln_Wderive {post : Int32 → St2 → Prop} {k x S : Nat} {a b : Int32} (hS : S < 16) (hS0 : S ≠ 0) (hk0 : 1 ≤ k) (hk : k ≤ 11) (hx : x < S) (h2 : ln_two k = true → ∃ y, y < S ∧ a = nI y) (h4 : k = 4 ∨ k = 6 → ∃ y, y ≤ 3 ∧ a = nI y) (h10 : k = 10 → ∃ y, 1 ≤ y ∧ y ≤ 8 ∧ a = nI y) (hPS : ln_P1 least S = (k, x, a, b)) {s : St2} (hW : ln_WS w u least n S s) (H : ∀ (hc sc lv cl pk pv oc : Int32) (a1 a2 a3 a4 a5 a6 a7 a8 a9 a10 a11 a12 a13 a14 a15 a16 a17 a18 a19 a20 a21 a22 a23 a24 a25 : Nat → Int32), ln_WS w u least n (S + 1) (hc, sc, lv, cl, pk, pv, oc, a1, a2, a3, a4, a5, a6, a7, a8, a9, a10, a11, a12, a13, a14, a15, a16, a17, a18, a19, a20, a21, a22, a23, a24, a25) → post (nI S) (hc, sc, lv, cl, pk, pv, oc, a1, a2, a3, a4, a5, a6, a7, a8, a9, a10, a11, a12, a13, a14, a15, a16, a17, a18, a19, a20, a21, a22, a23, a24, a25)) : wpX_derive post s (nI k) (nI x) a b := by
  refine ln_Qderive hS hS0 hk0 hk hx h2 h4 h10 (fun j _ => rfl) hPS (fun j _ => rfl) (fun j _ h => h) rfl s hW (fun s hW => ?_)
  obtain ⟨hc, sc, lv, cl, pk, pv, oc, a1, a2, a3, a4, a5, a6, a7, a8, a9, a10, a11, a12, a13, a14, a15, a16, a17, a18, a19, a20, a21, a22, a23, a24, a25⟩ := s
  exact H hc sc lv cl pk pv oc a1 a2 a3 a4 a5 a6 a7 a8 a9 a10 a11 a12 a13 a14 a15 a16 a17 a18 a19 a20 a21 a22 a23 a24 a25 hW
theorem ln_112 (hn : n ≤ 24) (hpost : post 1 ()) {lv0 : Int32} {b1 b2 : Nat → Int32} (hb : ∀ j, j < n → b1 j = nI (ln_K w j) ∧ b2 j = ln_V u j) :
    wL_lawOf_112 post mc ms w u (nI n) least kc ks (nI n) (nI 0) lv0 0 0 0 0 b1 b2 (fun _ => 0) (fun _ => 0) (fun _ => 0) (fun _ => 0) (fun _ => 0) (fun _ => 0) (fun _ => 0) (fun _ => 0) (fun _ => 0) (fun _ => 0) (fun _ => 0) (fun _ => 0) (fun _ => 0) (fun _ => 0) (fun _ => 0) (fun _ => 0) (fun _ => 0) (fun _ => 0) (fun _ => 0) (fun _ => 0) (fun _ => 0) (fun _ => 0) (fun _ => 0) := by
  unfold wL_lawOf_112
  have z0 : ∀ d : Nat, upd (fun _ => (0 : Int32)) 0 0 d = 0 := by
    intro d
    by_cases h : d = 0
    · rw [h, pk_us]
    · rw [pk_un h]
  refine ln_derive0 (nI n) (nI 0) lv0 0 0 0 0 b1 b2 (fun _ => 0) (fun _ => 0) (fun _ => 0) (fun _ => 0) (fun _ => 0) (fun _ => 0) (fun _ => 0) (fun _ => 0) (fun _ => 0) (fun _ => 0) (fun _ => 0) (fun _ => 0) (fun _ => 0) (fun _ => 0) (fun _ => 0) (fun _ => 0) (fun _ => 0) (fun _ => 0) (fun _ => 0) (fun _ => 0) (fun _ => 0) (fun _ => 0) (fun _ => 0) (c := n) rfl rfl hn (fun j hj => by rw [(hb j hj).1, ln_nrN (by have := (ln_K_e w j).2; omega)]) (fun a8 a9 h89 => br_t rfl ?_)
  unfold wpX_discard
  refine br_t rfl ?_
  have hQ1 : ln_WS w u least n 1 (0, nI 1, lv0, 0, 0, 0, 0, b1, b2, upd (fun _ => 0) 0 (nI 0), upd (fun _ => 0) 0 (nI 0), upd (fun _ => 0) 0 0, upd (fun _ => 0) 0 0, upd (fun _ => 0) 0 (nI n), a8, a9, upd (fun _ => 0) 0 0, (fun _ => 0), (fun _ => 0), (fun _ => 0), upd (fun _ => 0) 0 0, upd (fun _ => 0) 0 0, upd (fun _ => 0) 0 0, (fun _ => 0), (fun _ => 0), (fun _ => 0), (fun _ => 0), (fun _ => 0), (fun _ => 0), (fun _ => 0), (fun _ => 0), (fun _ => 0)) := by
    refine ⟨rfl, fun d hd => ?_, ⟨by rw [ln_LRlen]; exact hn, by rw [pk_us, ln_LRlen], fun i t h => ?_⟩, fun d _ => z0 d, fun j _ h => ?_, fun _ => [], fun _ => 0, ⟨fun d _ => ⟨z0 d, Nat.zero_le 48, fun i t h => by simp at h⟩, fun d _ => ⟨z0 d, Nat.zero_lt_succ 15⟩, fun d _ => ln_snd_0 rfl rfl, ln_ex0 (F := ln_LF w u least n) (L := fun _ => []) (T := fun _ => 0) rfl rfl, fun d _ _ => ⟨rfl, rfl⟩⟩, fun d _ _ => ⟨rfl, rfl⟩⟩
    · have hd0 : d = 0 := by omega
      subst hd0
      rw [pk_us, pk_us]
      exact ⟨rfl, rfl, rfl, rfl⟩
    · obtain ⟨hi, e⟩ := ln_RR_get h
      subst e
      rw [(h89 i hi).1, (h89 i hi).2, (hb i hi).1, (hb i hi).2]
      exact ⟨rfl, rfl, rfl, (ln_K_e w i).2⟩
    · rw [z0 j] at h
      exact absurd h (by decide)
  refine ln_Wderive (k := 2) (x := 0) (S := 1) (by decide) (by decide) (by decide) (by decide) (by decide) (fun z => ln_no rfl z) (fun z => absurd z (by decide)) (fun z => absurd z (by decide)) rfl hQ1 (fun hc sc lv cl pk pv oc a1 a2 a3 a4 a5 a6 a7 a8 a9 a10 a11 a12 a13 a14 a15 a16 a17 a18 a19 a20 a21 a22 a23 a24 a25 hW => br_t rfl ?_)
  refine ln_Wderive (k := 6) (x := 0) (S := 2) (by decide) (by decide) (by decide) (by decide) (by decide) (fun z => ln_no rfl z) (fun _ => ⟨0, by decide, rfl⟩) (fun z => absurd z (by decide)) rfl hW (fun hc sc lv cl pk pv oc a1 a2 a3 a4 a5 a6 a7 a8 a9 a10 a11 a12 a13 a14 a15 a16 a17 a18 a19 a20 a21 a22 a23 a24 a25 hW => br_t rfl ?_)
  refine ln_Wderive (k := 6) (x := 0) (S := 3) (by decide) (by decide) (by decide) (by decide) (by decide) (fun z => ln_no rfl z) (fun _ => ⟨3, by decide, rfl⟩) (fun z => absurd z (by decide)) rfl hW (fun hc sc lv cl pk pv oc a1 a2 a3 a4 a5 a6 a7 a8 a9 a10 a11 a12 a13 a14 a15 a16 a17 a18 a19 a20 a21 a22 a23 a24 a25 hW => br_t rfl ?_)
  refine ln_Wderive (k := 7) (x := 2) (S := 4) (by decide) (by decide) (by decide) (by decide) (by decide) (fun _ => ⟨3, by decide, rfl⟩) (fun z => absurd z (by decide)) (fun z => absurd z (by decide)) rfl hW (fun hc sc lv cl pk pv oc a1 a2 a3 a4 a5 a6 a7 a8 a9 a10 a11 a12 a13 a14 a15 a16 a17 a18 a19 a20 a21 a22 a23 a24 a25 hW => br_t rfl ?_)
  refine ln_Wderive (k := 8) (x := 0) (S := 5) (by decide) (by decide) (by decide) (by decide) (by decide) (fun z => ln_no rfl z) (fun z => absurd z (by decide)) (fun z => absurd z (by decide)) rfl hW (fun hc sc lv cl pk pv oc a1 a2 a3 a4 a5 a6 a7 a8 a9 a10 a11 a12 a13 a14 a15 a16 a17 a18 a19 a20 a21 a22 a23 a24 a25 hW => br_t rfl ?_)
  refine ln_Wderive (k := 9) (x := 0) (S := 6) (by decide) (by decide) (by decide) (by decide) (by decide) (fun _ => ⟨1, by decide, rfl⟩) (fun z => absurd z (by decide)) (fun z => absurd z (by decide)) rfl hW (fun hc sc lv cl pk pv oc a1 a2 a3 a4 a5 a6 a7 a8 a9 a10 a11 a12 a13 a14 a15 a16 a17 a18 a19 a20 a21 a22 a23 a24 a25 hW => br_t rfl ?_)
  refine ln_Wderive (k := 10) (x := 0) (S := 7) (by decide) (by decide) (by decide) (by decide) (by decide) (fun z => ln_no rfl z) (fun z => absurd z (by decide)) (fun _ => ⟨5, by decide, by decide, rfl⟩) rfl hW (fun hc sc lv cl pk pv oc a1 a2 a3 a4 a5 a6 a7 a8 a9 a10 a11 a12 a13 a14 a15 a16 a17 a18 a19 a20 a21 a22 a23 a24 a25 hW => br_t rfl ?_)
  refine ln_Wderive (k := 11) (x := 0) (S := 8) (by decide) (by decide) (by decide) (by decide) (by decide) (fun z => ln_no rfl z) (fun z => absurd z (by decide)) (fun z => absurd z (by decide)) rfl hW (fun hc sc lv cl pk pv oc a1 a2 a3 a4 a5 a6 a7 a8 a9 a10 a11 a12 a13 a14 a15 a16 a17 a18 a19 a20 a21 a22 a23 a24 a25 hW => br_t rfl ?_)
  refine ln_Wderive (k := 4) (x := 0) (S := 9) (by decide) (by decide) (by decide) (by decide) (by decide) (fun z => ln_no rfl z) (fun _ => ⟨2, by decide, rfl⟩) (fun z => absurd z (by decide)) rfl hW (fun hc sc lv cl pk pv oc a1 a2 a3 a4 a5 a6 a7 a8 a9 a10 a11 a12 a13 a14 a15 a16 a17 a18 a19 a20 a21 a22 a23 a24 a25 hW => br_t rfl ?_)
  refine ln_Wderive (k := 5) (x := 9) (S := 10) (by decide) (by decide) (by decide) (by decide) (by decide) (fun _ => ⟨9, by decide, rfl⟩) (fun z => absurd z (by decide)) (fun z => absurd z (by decide)) rfl hW (fun hc sc lv cl pk pv oc a1 a2 a3 a4 a5 a6 a7 a8 a9 a10 a11 a12 a13 a14 a15 a16 a17 a18 a19 a20 a21 a22 a23 a24 a25 hW => br_t rfl ?_)
  refine ln_Wderive (k := 6) (x := 10) (S := 11) (by decide) (by decide) (by decide) (by decide) (by decide) (fun z => ln_no rfl z) (fun _ => ⟨0, by decide, rfl⟩) (fun z => absurd z (by decide)) rfl hW (fun hc sc lv cl pk pv oc a1 a2 a3 a4 a5 a6 a7 a8 a9 a10 a11 a12 a13 a14 a15 a16 a17 a18 a19 a20 a21 a22 a23 a24 a25 hW => br_t rfl ?_)
  have hW12 : ln_W w u least n (hc, sc, lv, cl, pk, pv, oc, a1, a2, a3, a4, a5, a6, a7, a8, a9, a10, a11, a12, a13, a14, a15, a16, a17, a18, a19, a20, a21, a22, a23, a24, a25) := ⟨fun _ => false, ⟨rfl, rfl, fun _ _ => rfl⟩, hW⟩
  refine ln_Wkeep1 (d := 2) (by decide) (by decide) hW12 (fun hc sc lv cl pk pv oc a1 a2 a3 a4 a5 a6 a7 a8 a9 a10 a11 a12 a13 a14 a15 a16 a17 a18 a19 a20 a21 a22 a23 a24 a25 hW => br_f (by decide) ?_)
  refine ln_Wkeep1 (d := 9) (by decide) (by decide) hW (fun hc sc lv cl pk pv oc a1 a2 a3 a4 a5 a6 a7 a8 a9 a10 a11 a12 a13 a14 a15 a16 a17 a18 a19 a20 a21 a22 a23 a24 a25 hW => br_f (by decide) ?_)
  obtain ⟨kp, hkp, hQ⟩ := hW
  refine ln_QkeepN (d := 12) (by decide) (by decide) (by decide) (hc, sc, lv, cl, pk, pv, oc, a1, a2, a3, a4, a5, a6, a7, a8, a9, a10, a11, a12, a13, a14, a15, a16, a17, a18, a19, a20, a21, a22, a23, a24, a25) hQ (br_t rfl ⟨4, ?_⟩)
  exact ln_334 hn hpost 3 4 0 hc sc lv cl pk pv oc a1 a2 a3 a4 a5 a6 a7 a8 a9 a10 a11 a12 a13 a14 a15 a16 a17 a18 a19 a20 a21 a22 a23 a24 a25 (by decide) (by decide) ⟨kp, hkp, hQ⟩
theorem ln_46 (hn : n ≤ 24) (hpost : post 1 ()) {lv0 : Int32} : ∀ (c f i : Nat) (b1 b2 : Nat → Int32), i + c = n → c < f → (∀ j, j < i → b1 j = nI (ln_K w j) ∧ b2 j = ln_V u j) →
    wL_lawOf_46 post mc ms w u (nI n) least kc ks f (nI i) (nI i) (nI 0) lv0 0 0 0 0 b1 b2 (fun _ => 0) (fun _ => 0) (fun _ => 0) (fun _ => 0) (fun _ => 0) (fun _ => 0) (fun _ => 0) (fun _ => 0) (fun _ => 0) (fun _ => 0) (fun _ => 0) (fun _ => 0) (fun _ => 0) (fun _ => 0) (fun _ => 0) (fun _ => 0) (fun _ => 0) (fun _ => 0) (fun _ => 0) (fun _ => 0) (fun _ => 0) (fun _ => 0) (fun _ => 0) := by
  intro c
  induction c with
  | zero =>
    intro f i b1 b2 hi hf hb
    obtain ⟨f, rfl⟩ : ∃ g, f = g + 1 := ⟨f - 1, by omega⟩
    have hin : i = n := by omega
    subst hin
    refine pk_le i i (fun _ => pk_eq i 24 (fun z => ?_) (fun z => ?_)) (fun z => absurd z (by omega))
    · exact ln_rowF (nI i) (nI 0) lv0 0 0 0 0 b1 b2 (fun _ => 0) (fun _ => 0) (fun _ => 0) (fun _ => 0) (fun _ => 0) (fun _ => 0) (fun _ => 0) (fun _ => 0) (fun _ => 0) (fun _ => 0) (fun _ => 0) (fun _ => 0) (fun _ => 0) (fun _ => 0) (fun _ => 0) (fun _ => 0) (fun _ => 0) (fun _ => 0) (fun _ => 0) (fun _ => 0) (fun _ => 0) (fun _ => 0) (fun _ => 0) (by rw [z]) (br_t rfl (ln_112 hn hpost hb))
    · exact ln_112 hn hpost hb
  | succ c ih =>
    intro f i b1 b2 hi hf hb
    obtain ⟨f, rfl⟩ : ∃ g, f = g + 1 := ⟨f - 1, by omega⟩
    refine pk_le n i (fun z => absurd z (by omega)) (fun _ => ?_)
    refine ln_key (ln_value ?_)
    refine ln_row (nI i) (nI 0) lv0 0 0 0 0 b1 b2 (fun _ => 0) (fun _ => 0) (fun _ => 0) (fun _ => 0) (fun _ => 0) (fun _ => 0) (fun _ => 0) (fun _ => 0) (fun _ => 0) (fun _ => 0) (fun _ => 0) (fun _ => 0) (fun _ => 0) (fun _ => 0) (fun _ => 0) (fun _ => 0) (fun _ => 0) (fun _ => 0) (fun _ => 0) (fun _ => 0) (fun _ => 0) (fun _ => 0) (fun _ => 0) (h := i) (k := ln_K w i) rfl (by omega) rfl (ln_K_e w i).2 (br_t (nI_1 i).symm (nm_r (nI_1 i) ?_))
    refine ih f (i + 1) _ _ (by omega) (by omega) (fun j hj => ?_)
    by_cases h : j = i
    · rw [h, pk_us, pk_us]
      exact ⟨rfl, rfl⟩
    · rw [pk_un h, pk_un h]
      exact hb j (by omega)
theorem ln_lawOf {p0 p1 p2 p3 p4 : Int32} (hpost : post 1 ()) : wpL_lawOf post 986 15760 () p0 p1 p2 p3 p4 := by
  obtain ⟨j, hj, ej⟩ := pk_andE p2 (m := 255) 8 (by decide)
  obtain ⟨i, hi, ei⟩ := pk_andE p4 (m := 255) 8 (by decide)
  have e25 : (p2 &&& 255) - (p2 &&& 255) / 25 * 25 = nI (j % 25) := by
    rw [ej]
    exact pk_rem (a := j) (d := 25) (by omega) (by decide) (by decide)
  have e3 : (p4 &&& 255) - (p4 &&& 255) / 3 * 3 = nI (i % 3) := by
    rw [ei]
    exact pk_rem (a := i) (d := 3) (by omega) (by decide) (by decide)
  have hn : j % 25 < 25 := Nat.mod_lt _ (by decide)
  have hl : i % 3 < 3 := Nat.mod_lt _ (by decide)
  unfold wpL_lawOf
  refine ⟨by decide, by decide, 985, 15728, by decide, by decide, ?_⟩
  unfold wpX_init
  refine ⟨by decide, by decide, by decide, by decide, by decide, by decide, by decide, by decide, by decide, by decide, by decide, by decide, by decide, by decide, by decide, by decide, by decide, by decide, by decide, by decide, by decide, by decide, by decide, by decide, by decide, by decide, by decide, by decide, by decide, by decide, by decide, by decide, by decide, by decide, by decide, by decide, by decide, by decide, by decide, by decide, by decide, by decide, by decide, by decide, by decide, by decide, by decide, by decide, by decide, by decide, ?_⟩
  refine ⟨by decide, nm_r e25 ⟨by decide, nm_e ⟨by decide, ?_⟩⟩⟩
  refine ln_level 0 0 2 0 0 0 0 (fun _ => 0) (fun _ => 0) (fun _ => 0) (fun _ => 0) (fun _ => 0) (fun _ => 0) (fun _ => 0) (fun _ => 0) (fun _ => 0) (fun _ => 0) (fun _ => 0) (fun _ => 0) (fun _ => 0) (fun _ => 0) (fun _ => 0) (fun _ => 0) (fun _ => 0) (fun _ => 0) (fun _ => 0) (fun _ => 0) (fun _ => 0) (fun _ => 0) (fun _ => 0) (fun _ => 0) (fun _ => 0) e3 (by omega) (fun _ => br_f (by decide) ⟨26, ?_⟩) (fun z => absurd z (by omega))
  exact ln_46 (n := j % 25) (by omega) hpost (j % 25) 26 0 (fun _ => 0) (fun _ => 0) (by omega) (by omega) (fun j hj => absurd hj (by omega))
end
theorem ln_cellAt {post : Int32 → Prop} {L : Nat} {xs : Nat → Int32} (hL : L ≤ 5) {i : Nat} (hi : i < 1000) (H : ∀ v, post v) : wpL_cellAt post L xs () (nI i) := by
  unfold wpL_cellAt
  exact pk_le L i (fun _ => H _) (fun z => ⟨pk_in i L z, H _⟩)
theorem i_vc (xs : Nat → Int32) (L : Nat) (hL : L ≤ 5) : wpL_law (fun r => r = 1) L xs := by
  unfold wpL_law
  refine ln_cellAt (i := 0) hL (by decide) (fun v0 => ?_)
  refine ln_cellAt (i := 1) hL (by decide) (fun v1 => ?_)
  refine ln_cellAt (i := 2) hL (by decide) (fun v2 => ?_)
  refine ln_cellAt (i := 3) hL (by decide) (fun v3 => ?_)
  refine ln_cellAt (i := 4) hL (by decide) (fun v4 => ?_)
  exact ⟨986, 15760, by decide, by decide, ln_lawOf rfl⟩
end
