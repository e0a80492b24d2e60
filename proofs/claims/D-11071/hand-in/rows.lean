section
theorem ae_sh16 : ∀ n, n < 512 → (nI n).toInt16.toInt32 = nI n := by decide +kernel
theorem ae_by8 : ∀ n, n < 128 → (nI n).toInt8.toInt32 = nI n := by decide +kernel
theorem ae_ns {n : Nat} (h : n ≤ 300) : vp_nar .short (nI n) = nI n := by
  rw [vp_nar_short]
  exact ae_sh16 n (by omega)
theorem ae_pg : ∀ c, c < 16 → nI c >>> ((2 : Int32) &&& 31) = nI (c / 4) := by decide +kernel
theorem ae_lo : ∀ c, c < 16 → nI c &&& 3 = nI (c % 4) := by decide +kernel
theorem ae_ix (f i : Nat) : (4 : Int32) * nI f + nI i = nI (4 * f + i) := by
  rw [show (4 : Int32) = nI 4 from rfl, pk_mul, nI_add]
theorem ae_m1 : ∀ p, p < 4 → (-1 : Int32) ≠ nI p := by decide +kernel
theorem ae_nI {a b : Nat} (h : nI a = nI b) (ha : a ≤ 300) (hb : b ≤ 300) : a = b := (nI_eq (by omega) (by omega)).mp h
/-- the pool and the disk: H n c is cell c after n entries of the log, E p the number of the entry up to which page p is held -/
def ae_pool (k L : Nat) (H : Nat → Nat → Int32) (E : Nat → Nat) (se hd : Int32) (a1 a2 a12 a13 a14 a15 : Nat → Int32) : Prop :=
  (∃ h, h < k ∧ hd = nI h) ∧
  (∃ S, S ≤ L ∧ se = nI S ∧ ∀ p, p < 4 → ∃ d, d ≤ S ∧ a2 p = nI d ∧ ∀ i, i < 4 → a1 (4 * p + i) = H d (4 * p + i)) ∧
  (∀ p, p < 4 → E p ≤ L) ∧
  (∀ f, f < k → a12 f = -1 ∨ ∃ p, p < 4 ∧ a12 f = nI p) ∧
  (∀ f g p, f < k → g < k → p < 4 → a12 f = nI p → a12 g = nI p → f = g) ∧
  (∀ p, p < 4 → (∀ f, f < k → a12 f ≠ nI p) → a2 p = nI (E p)) ∧
  (∀ f p, f < k → p < 4 → a12 f = nI p → a14 f = nI (E p) ∧ (∀ i, i < 4 → a13 (4 * f + i) = H (E p) (4 * p + i)) ∧ (a15 f = 0 → a2 p = nI (E p)))
theorem ae_pool_hd {k L : Nat} {H : Nat → Nat → Int32} {E : Nat → Nat} {se hd hd' : Int32} {a1 a2 a12 a13 a14 a15 : Nat → Int32} (h : ae_pool k L H E se hd a1 a2 a12 a13 a14 a15) (hh : ∃ h, h < k ∧ hd' = nI h) : ae_pool k L H E se hd' a1 a2 a12 a13 a14 a15 := ⟨hh, h.2⟩
/-- a page that is written -/
theorem ae_pool_write {k L : Nat} {H : Nat → Nat → Int32} {E : Nat → Nat} {se hd se' : Int32} {a1 a2 a12 a13 a14 a15 a1' : Nat → Int32} (hL : L ≤ 300) (h : ae_pool k L H E se hd a1 a2 a12 a13 a14 a15) {f p : Nat} (hf : f < k) (hp : p < 4) (ha : a12 f = nI p)
    (hse : (se' = se ∧ a14 f ≤ se) ∨ (se' = a14 f ∧ ¬ a14 f ≤ se)) (h1 : ∀ i, i < 4 → a1' (4 * p + i) = a13 (4 * f + i)) (h2 : ∀ q i, q < 4 → i < 4 → q ≠ p → a1' (4 * q + i) = a1 (4 * q + i)) :
    ae_pool k L H E se' hd a1' (upd a2 p (nI (E p))) a12 a13 a14 (upd a15 f 0) := by
  obtain ⟨hh, ⟨S, hS, es, hd4⟩, hE, hpg, hu, hout, hin⟩ := h
  obtain ⟨g1, g2, g3⟩ := hin f p hf hp ha
  have hEp := hE p hp
  have key : ∃ S', S' ≤ L ∧ se' = nI S' ∧ S ≤ S' ∧ E p ≤ S' := by
    rw [g1, es, nI_leI (by omega) (by omega)] at hse
    rcases hse with ⟨e, l⟩ | ⟨e, l⟩
    · exact ⟨S, hS, by rw [e], Nat.le_refl _, l⟩
    · exact ⟨E p, hEp, e, by omega, Nat.le_refl _⟩
  obtain ⟨S', hS', es', hSS, hES⟩ := key
  refine ⟨hh, ⟨S', hS', es', fun q hq => ?_⟩, hE, hpg, hu, fun q hq hn => ?_, fun g q hg hq hgq => ?_⟩
  · by_cases e : q = p
    · subst e
      exact ⟨E q, hES, pk_us, fun i hi => by rw [h1 i hi, g2 i hi]⟩
    · obtain ⟨d, hd, ed, hc⟩ := hd4 q hq
      exact ⟨d, by omega, by rw [pk_un e, ed], fun i hi => by rw [h2 q i hq hi e, hc i hi]⟩
  · by_cases e : q = p
    · subst e
      exact pk_us
    · rw [pk_un e]
      exact hout q hq hn
  · obtain ⟨k1, k2, k3⟩ := hin g q hg hq hgq
    refine ⟨k1, k2, fun z => ?_⟩
    by_cases e : q = p
    · subst e
      exact pk_us
    · rw [pk_un e]
      by_cases eg : g = f
      · subst eg
        exact absurd (ae_nI (ha.symm.trans hgq) (by omega) (by omega)).symm e
      · rw [pk_un eg] at z
        exact k3 z
/-- a page that is brought in -/
theorem ae_pool_load {k L : Nat} {H : Nat → Nat → Int32} {E : Nat → Nat} {se hd hd' : Int32} {a1 a2 a12 a13 a14 a15 a13' : Nat → Int32} (hL : L ≤ 300) (h : ae_pool k L H E se hd a1 a2 a12 a13 a14 a15) {h0 p : Nat} (hh : h0 < k) (hp : p < 4)
    (hn : ∀ f, f < k → a12 f ≠ nI p) (hfl : ∀ q, q < 4 → a12 h0 = nI q → a2 q = nI (E q)) (hhd : ∃ h', h' < k ∧ hd' = nI h')
    (h1 : ∀ i, i < 4 → a13' (4 * h0 + i) = a1 (4 * p + i)) (h2 : ∀ g i, i < 4 → g ≠ h0 → a13' (4 * g + i) = a13 (4 * g + i)) :
    ae_pool k L H E se hd' a1 a2 (upd a12 h0 (nI p)) a13' (upd a14 h0 (a2 p)) (upd a15 h0 0) := by
  obtain ⟨_, ⟨S, hS, es, hd4⟩, hE, hpg, hu, hout, hin⟩ := h
  have ep := hout p hp hn
  refine ⟨hhd, ⟨S, hS, es, hd4⟩, hE, fun f hf => ?_, fun f g q hf hg hq ef eg => ?_, fun q hq hq2 => ?_, fun f q hf hq ef => ?_⟩
  · by_cases e : f = h0
    · rw [e, pk_us]
      exact Or.inr ⟨p, hp, rfl⟩
    · rw [pk_un e]
      exact hpg f hf
  · by_cases e : f = h0
    · by_cases e' : g = h0
      · rw [e, e']
      · rw [e, pk_us] at ef
        rw [pk_un e', ← ef] at eg
        exact absurd eg (hn g hg)
    · rw [pk_un e] at ef
      by_cases e' : g = h0
      · rw [e', pk_us] at eg
        rw [← eg] at ef
        exact absurd ef (hn f hf)
      · rw [pk_un e'] at eg
        exact hu f g q hf hg hq ef eg
  · by_cases e : a12 h0 = nI q
    · exact hfl q hq e
    · refine hout q hq (fun f hf => ?_)
      by_cases ef : f = h0
      · rw [ef]
        exact e
      · have := hq2 f hf
        rw [pk_un ef] at this
        exact this
  · by_cases e : f = h0
    · rw [e, pk_us] at ef
      have eq : q = p := (ae_nI ef (by omega) (by omega)).symm
      subst eq
      subst e
      refine ⟨by rw [pk_us, ep], fun i hi => ?_, fun _ => ep⟩
      obtain ⟨d, hd, ed, hc⟩ := hd4 q hp
      have : d = E q := ae_nI (ed.symm.trans ep) (by omega) (by have := hE q hp; omega)
      rw [h1 i hi, hc i hi, this]
    · rw [pk_un e] at ef
      obtain ⟨k1, k2, k3⟩ := hin f q hf hq ef
      refine ⟨by rw [pk_un e, k1], fun i hi => by rw [h2 f i hi e, k2 i hi], fun z => ?_⟩
      rw [pk_un e] at z
      exact k3 z
/-- a cell of a held page that is set, under the entry's number n -/
theorem ae_pool_set {k L L' : Nat} {H : Nat → Nat → Int32} {E : Nat → Nat} {se hd v : Int32} {a1 a2 a12 a13 a14 a15 a15' : Nat → Int32} (hL : L' ≤ 300) (h : ae_pool k L H E se hd a1 a2 a12 a13 a14 a15) (hLL : L ≤ L') {f p n i0 : Nat} (hf : f < k) (hp : p < 4) (ha : a12 f = nI p)
    (hi0 : i0 < 4) (hn0 : 0 < n) (hn : n ≤ L') (h15 : (a15' = a15 ∧ ¬ a15 f = 0) ∨ a15' = upd a15 f (nI n)) (hH : ∀ i, i < 4 → H n (4 * p + i) = if i = i0 then v else H (E p) (4 * p + i)) :
    ae_pool k L' H (fun q => if q = p then n else E q) se hd a1 a2 a12 (upd a13 (4 * f + i0) v) (upd a14 f (nI n)) a15' := by
  obtain ⟨hh, ⟨S, hS, es, hd4⟩, hE, hpg, hu, hout, hin⟩ := h
  refine ⟨hh, ⟨S, by omega, es, hd4⟩, fun q hq => ?_, hpg, hu, fun q hq hq2 => ?_, fun g q hg hq eg => ?_⟩
  · show (if q = p then n else E q) ≤ L'
    have := hE q hq
    split <;> omega
  · show a2 q = nI (if q = p then n else E q)
    by_cases e : q = p
    · rw [e] at hq2
      exact absurd ha (hq2 f hf)
    · rw [if_neg e]
      exact hout q hq hq2
  · show upd a14 f (nI n) g = nI (if q = p then n else E q) ∧ (∀ i, i < 4 → upd a13 (4 * f + i0) v (4 * g + i) = H (if q = p then n else E q) (4 * q + i)) ∧ (a15' g = 0 → a2 q = nI (if q = p then n else E q))
    obtain ⟨k1, k2, k3⟩ := hin g q hg hq eg
    by_cases e : g = f
    · subst e
      have eq : q = p := (ae_nI (ha.symm.trans eg) (by omega) (by omega)).symm
      subst eq
      rw [if_pos rfl, pk_us]
      refine ⟨rfl, fun i hi => ?_, fun z => ?_⟩
      · rw [hH i hi]
        by_cases ei : i = i0
        · subst ei
          rw [pk_us, if_pos rfl]
        · rw [if_neg ei, pk_un (by omega), k2 i hi]
      · exfalso
        rcases h15 with ⟨e1, e2⟩ | e1
        · rw [e1] at z
          exact e2 z
        · rw [e1, pk_us] at z
          exact nI_ne0 hn0 (by omega) z
    · have eq : q ≠ p := fun z => e (hu g f p hg hf hp (by rw [eg, z]) ha)
      rw [if_neg eq, pk_un e]
      refine ⟨k1, fun i hi => ?_, fun z => ?_⟩
      · rw [pk_un (by omega), k2 i hi]
      · rcases h15 with ⟨e1, e2⟩ | e1
        · rw [e1] at z
          exact k3 z
        · rw [e1, pk_un e] at z
          exact k3 z
theorem ae_pool_H {k L : Nat} {H H' : Nat → Nat → Int32} {E : Nat → Nat} {se hd : Int32} {a1 a2 a12 a13 a14 a15 : Nat → Int32} (h : ae_pool k L H E se hd a1 a2 a12 a13 a14 a15) (hH : ∀ n c, n ≤ L → H' n c = H n c) : ae_pool k L H' E se hd a1 a2 a12 a13 a14 a15 := by
  obtain ⟨hh, ⟨S, hS, es, hd4⟩, hE, hpg, hu, hout, hin⟩ := h
  refine ⟨hh, ⟨S, hS, es, fun p hp => ?_⟩, hE, hpg, hu, hout, fun f p hf hp hfp => ?_⟩
  · obtain ⟨d, hd, ed, hc⟩ := hd4 p hp
    exact ⟨d, hd, ed, fun i hi => by rw [hc i hi, hH d _ (by omega)]⟩
  · obtain ⟨k1, k2, k3⟩ := hin f p hf hp hfp
    exact ⟨k1, fun i hi => by rw [k2 i hi, hH _ _ (hE p hp)], k3⟩
theorem ae_pool_L {k L L' : Nat} {H : Nat → Nat → Int32} {E : Nat → Nat} {se hd : Int32} {a1 a2 a12 a13 a14 a15 : Nat → Int32} (h : ae_pool k L H E se hd a1 a2 a12 a13 a14 a15) (hL : L ≤ L') : ae_pool k L' H E se hd a1 a2 a12 a13 a14 a15 := by
  obtain ⟨hh, ⟨S, hS, es, hd4⟩, hE, hpg, hu, hout, hin⟩ := h
  exact ⟨hh, ⟨S, by omega, es, hd4⟩, fun p hp => Nat.le_trans (hE p hp) hL, hpg, hu, hout, hin⟩
/-- the pool is lost -/
theorem ae_pool_crash {k L : Nat} {H : Nat → Nat → Int32} {E : Nat → Nat} {se hd : Int32} {a1 a2 a12 a13 a14 a15 a12' : Nat → Int32} (hL : L ≤ 300) (h : ae_pool k L H E se hd a1 a2 a12 a13 a14 a15) (hm : ∀ f, f < k → a12' f = -1) :
    ∃ S E', S ≤ L ∧ se = nI S ∧ ae_pool k S H E' se hd a1 a2 a12' a13 a14 a15 := by
  obtain ⟨hh, ⟨S, hS, es, hd4⟩, hE, hpg, hu, hout, hin⟩ := h
  have key : ∀ p, p < 4 → (a2 p).toNatClampNeg ≤ S ∧ a2 p = nI ((a2 p).toNatClampNeg) := by
    intro p hp
    obtain ⟨d, hd, ed, _⟩ := hd4 p hp
    rw [ed, nI_clamp (by omega)]
    exact ⟨hd, rfl⟩
  refine ⟨S, fun p => (a2 p).toNatClampNeg, hS, es, hh, ⟨S, Nat.le_refl _, es, hd4⟩, fun p hp => (key p hp).1, fun f hf => Or.inl (hm f hf), fun f g p hf hg hp ef => ?_, fun p hp _ => (key p hp).2, fun f p hf hp ef => ?_⟩
  · rw [hm f hf] at ef
    exact absurd ef (ae_m1 p hp)
  · rw [hm f hf] at ef
    exact absurd ef (ae_m1 p hp)
/-- all is written, all numbers are forgotten -/
theorem ae_pool_forget {k L : Nat} {H : Nat → Nat → Int32} {E : Nat → Nat} {se hd : Int32} {a1 a2 a12 a13 a14 a15 a2' a14' a15' : Nat → Int32} (hL : L ≤ 300) (hk : k ≤ 3) (h : ae_pool k L H E se hd a1 a2 a12 a13 a14 a15)
    (hfl : ∀ f p, f < k → p < 4 → a12 f = nI p → a2 p = nI (E p)) (h2 : ∀ p, p < 4 → a2' p = 0) (h14 : ∀ f, f < 3 → a14' f = 0) :
    ae_pool k 0 (fun _ c => H (E (c / 4)) c) (fun _ => 0) 0 hd a1 a2' a12 a13 a14' a15' := by
  obtain ⟨hh, ⟨S, hS, es, hd4⟩, hE, hpg, hu, hout, hin⟩ := h
  refine ⟨hh, ⟨0, Nat.le_refl _, rfl, fun p hp => ⟨0, Nat.le_refl _, h2 p hp, fun i hi => ?_⟩⟩, fun p hp => Nat.le_refl _, hpg, hu, fun p hp _ => h2 p hp, fun f p hf hp ef => ⟨h14 f (by omega), fun i hi => ?_, fun _ => h2 p hp⟩⟩
  · have e : a2 p = nI (E p) := by
      by_cases g : ∀ f, f < k → a12 f ≠ nI p
      · exact hout p hp g
      · have : ∃ f, f < k ∧ a12 f = nI p := by
          apply Classical.byContradiction
          intro z
          exact g (fun f hf ef => z ⟨f, hf, ef⟩)
        obtain ⟨f, hf, ef⟩ := this
        exact hfl f p hf hp ef
    obtain ⟨d, hd, ed, hc⟩ := hd4 p hp
    have ed' : d = E p := ae_nI (ed.symm.trans e) (by omega) (by have := hE p hp; omega)
    show a1 (4 * p + i) = H (E ((4 * p + i) / 4)) (4 * p + i)
    rw [show (4 * p + i) / 4 = p by omega, ← ed']
    exact hc i hi
  · show a13 (4 * f + i) = H (E ((4 * p + i) / 4)) (4 * p + i)
    rw [show (4 * p + i) / 4 = p by omega]
    exact (hin f p hf hp ef).2.1 i hi
/-- a cell is set under a new number: the history grows by a row -/
def ae_ext (H : Nat → Nat → Int32) (n : Nat) (row : Nat → Int32) : Nat → Nat → Int32 := fun m c => if m = n then row c else H m c
theorem ae_ext_s {H : Nat → Nat → Int32} {n : Nat} {row : Nat → Int32} {c : Nat} : ae_ext H n row n c = row c := if_pos rfl
theorem ae_ext_n {H : Nat → Nat → Int32} {n m : Nat} {row : Nat → Int32} {c : Nat} (h : m ≠ n) : ae_ext H n row m c = H m c := if_neg h
theorem ae_pool_new {k L : Nat} {H : Nat → Nat → Int32} {E : Nat → Nat} {C : Nat → Int32} {se hd v : Int32} {a1 a2 a12 a13 a14 a15 a15' : Nat → Int32} (hL : L < 300) (h : ae_pool k L H E se hd a1 a2 a12 a13 a14 a15) (hC : ∀ c, c < 16 → H (E (c / 4)) c = C c) {f c : Nat} (hf : f < k) (hc : c < 16) (ha : a12 f = nI (c / 4))
    (h15 : (a15' = a15 ∧ ¬ a15 f = 0) ∨ a15' = upd a15 f (nI (L + 1))) :
    ae_pool k (L + 1) (ae_ext H (L + 1) (upd C c v)) (fun q => if q = c / 4 then L + 1 else E q) se hd a1 a2 a12 (upd a13 (4 * f + c % 4) v) (upd a14 f (nI (L + 1))) a15' ∧
    (∀ c', c' < 16 → ae_ext H (L + 1) (upd C c v) (if c' / 4 = c / 4 then L + 1 else E (c' / 4)) c' = upd C c v c') := by
  have hE := h.2.2.1
  constructor
  · refine ae_pool_set (L := L) (by omega) (ae_pool_H h (fun n c' hn => ae_ext_n (by omega))) (by omega) hf (by omega) ha (by omega) (by omega) (Nat.le_refl _) h15 (fun i hi => ?_)
    have e1 : E (c / 4) ≠ L + 1 := by
      have := hE (c / 4) (by omega)
      omega
    rw [ae_ext_s, ae_ext_n e1]
    by_cases ei : i = c % 4
    · rw [if_pos ei, show 4 * (c / 4) + i = c by omega, pk_us]
    · rw [if_neg ei, pk_un (by omega), ← hC _ (by omega), show (4 * (c / 4) + i) / 4 = c / 4 by omega]
  · intro c' hc'
    by_cases e : c' / 4 = c / 4
    · rw [if_pos e, ae_ext_s]
    · have e1 : E (c' / 4) ≠ L + 1 := by
        have := hE (c' / 4) (by omega)
        omega
      rw [if_neg e, ae_ext_n e1, pk_un (fun z => e (by rw [z])), hC c' hc']
/-- the pool holds the cells C under the history H; ae_hold: under some history -/
def ae_nrm (k L : Nat) (H : Nat → Nat → Int32) (C : Nat → Int32) (se hd : Int32) (a1 a2 a12 a13 a14 a15 : Nat → Int32) : Prop :=
  ∃ E, ae_pool k L H E se hd a1 a2 a12 a13 a14 a15 ∧ ∀ c, c < 16 → H (E (c / 4)) c = C c
def ae_hold (k L : Nat) (C : Nat → Int32) (se hd : Int32) (a1 a2 a12 a13 a14 a15 : Nat → Int32) : Prop :=
  ∃ H, ae_nrm k L H C se hd a1 a2 a12 a13 a14 a15
end
section
theorem ae_fill4 {s a g : Nat → Int32} {p i k : Nat} {x : Int32} (hi : i < 4) (hk : k = 4 * p + i) (hx : x = g i) (h : (∀ j, j < i → s (4 * p + j) = g j) ∧ (∀ q j, j < 4 → q ≠ p → s (4 * q + j) = a (4 * q + j))) :
    (∀ j, j < i + 1 → upd s k x (4 * p + j) = g j) ∧ (∀ q j, j < 4 → q ≠ p → upd s k x (4 * q + j) = a (4 * q + j)) := by
  subst hk hx
  constructor
  · intro j hj
    by_cases e : j = i
    · rw [e, pk_us]
    · rw [pk_un (by omega)]
      exact h.1 j (by omega)
  · intro q j hj hq
    rw [pk_un (by omega)]
    exact h.2 q j hj hq
theorem ae_fillc {s : Nat → Int32} {i k : Nat} {x : Int32} (hk : k = i) (h : ∀ j, j < i → s j = x) : ∀ j, j < i + 1 → upd s k x j = x := by
  intro j hj
  rw [hk]
  by_cases e : j = i
  · rw [e, pk_us]
  · rw [pk_un e]
    exact h j (by omega)
section
variable {se ce le fc hd sl : Int32} {a1 a2 a3 a4 a5 a6 a7 a8 a9 a10 a11 a12 a13 a14 a15 a16 a17 a18 a19 a20 : Nat → Int32}
theorem ae_wp51 {post : St2 → Prop} {f p : Nat} (hf : f < 3) (hp : p < 4)
    (hpost : ∀ b1 : Nat → Int32, (∀ i, i < 4 → b1 (4 * p + i) = a13 (4 * f + i)) → (∀ q i, i < 4 → q ≠ p → b1 (4 * q + i) = a1 (4 * q + i)) → post (se, ce, le, fc, hd, sl, b1, upd a2 p (vp_nar .short (a14 f)), a3, a4, a5, a6, a7, a8, a9, a10, a11, a12, a13, a14, upd a15 f 0, a16, a17, a18, a19, a20)) :
    ∃ n, wX_writePage_51 post (nI f) (nI p) se ce le fc hd sl n 0 a1 a2 a3 a4 a5 a6 a7 a8 a9 a10 a11 a12 a13 a14 a15 a16 a17 a18 a19 a20 :=
  pk_loop (fun n i s => wX_writePage_51 post (nI f) (nI p) se ce le fc hd sl n (nI i) s a2 a3 a4 a5 a6 a7 a8 a9 a10 a11 a12 a13 a14 a15 a16 a17 a18 a19 a20) (fun i s => (∀ j, j < i → s (4 * p + j) = a13 (4 * f + j)) ∧ (∀ q j, j < 4 → q ≠ p → s (4 * q + j) = a1 (4 * q + j))) 4 0 a1 (by omega) ⟨fun j hj => absurd hj (by omega), fun q j _ _ => rfl⟩
    (fun n s h => pk_le 4 4 (fun _ => ⟨pk_in f 3 hf, pk_in p 4 hp, nm_r (by rw [nI_clamp (by omega), nI_clamp (by omega)]) ⟨pk_in f 3 hf, nm_r (by rw [nI_clamp (by omega)]) (hpost s h.1 h.2)⟩⟩) (fun z => absurd z (by omega)))
    (fun n i s hi h hw => pk_le 4 i (fun z => absurd z (by omega)) (fun _ => ⟨pk_in (4 * f + i) 12 (by omega) (ae_ix f i), pk_in (4 * p + i) 16 (by omega) (ae_ix p i), nm_e (nm_r (nI_1 i) (hw _ (ae_fill4 (g := fun j => a13 (4 * f + j)) hi (pk_cl (4 * p + i) (ae_ix p i)) (by rw [pk_cl (4 * f + i) (ae_ix f i)]) h)))⟩))
theorem ae_writePage {post : St2 → Prop} {k L : Nat} {H : Nat → Nat → Int32} {E : Nat → Nat} (hk : k ≤ 3) (hL : L ≤ 300) (h : ae_pool k L H E se hd a1 a2 a12 a13 a14 a15) {f : Nat} (hf : f < k)
    (hpost : ∀ (se' : Int32) (b1 b2 b15 : Nat → Int32), ae_pool k L H E se' hd b1 b2 a12 a13 a14 b15 → (∀ p, p < 4 → a12 f = nI p → b2 p = nI (E p)) → (∀ q, q < 4 → a2 q = nI (E q) → b2 q = nI (E q)) → post (se', ce, le, fc, hd, sl, b1, b2, a3, a4, a5, a6, a7, a8, a9, a10, a11, a12, a13, a14, b15, a16, a17, a18, a19, a20)) :
    wpX_writePage post (se, ce, le, fc, hd, sl, a1, a2, a3, a4, a5, a6, a7, a8, a9, a10, a11, a12, a13, a14, a15, a16, a17, a18, a19, a20) (nI f) := by
  have hcl : (nI f).toNatClampNeg = f := nI_clamp (by omega)
  have hin := h.2.2.2.2.2.2
  unfold wpX_writePage
  dsimp only
  rw [hcl]
  refine ⟨pk_in f 3 (by omega), br_c (fun z => hpost se a1 a2 a15 h ?_ (fun q _ e => e)) (fun z => ⟨pk_in f 3 (by omega), br_c (fun z2 => hpost se a1 a2 a15 h ?_ (fun q _ e => e)) (fun z2 => ⟨pk_in f 3 (by omega), ?_⟩)⟩)⟩
  · intro p hp e
    rw [e] at z
    exact absurd z (nI_pos (by omega))
  · intro p hp e
    exact (hin f p hf hp e).2.2 z2
  · have hpg : ∃ p, p < 4 ∧ a12 f = nI p := by
      rcases h.2.2.2.1 f hf with e | e
      · rw [e] at z
        exact absurd (by decide) z
      · exact e
    obtain ⟨p, hp, e⟩ := hpg
    have hEp := h.2.2.1 p hp
    have e14 : vp_nar .short (a14 f) = nI (E p) := by
      rw [(hin f p hf hp e).1]
      exact ae_ns (by omega)
    have main : ∀ se' : Int32, ((se' = se ∧ a14 f ≤ se) ∨ (se' = a14 f ∧ ¬ a14 f ≤ se)) → ∃ n, wX_writePage_51 post (nI f) (nI p) se' ce le fc hd sl n 0 a1 a2 a3 a4 a5 a6 a7 a8 a9 a10 a11 a12 a13 a14 a15 a16 a17 a18 a19 a20 := by
      intro se' hse
      refine ae_wp51 (by omega) hp (fun b1 h1 h2 => ?_)
      rw [e14]
      refine hpost se' b1 _ _ (ae_pool_write hL h hf hp e hse h1 (fun q i _ hi hq => h2 q i hi hq)) (fun q hq eq => ?_) (fun q hq eq => ?_)
      · have : p = q := ae_nI (e.symm.trans eq) (by omega) (by omega)
        subst this
        exact pk_us
      · by_cases g : q = p
        · subst g
          exact pk_us
        · rw [pk_un g]
          exact eq
    exact br_c (fun z3 => ⟨pk_in f 3 (by omega), nm_r e (main se (Or.inl ⟨rfl, z3⟩))⟩) (fun z3 => ⟨pk_in f 3 (by omega), nm_e ⟨pk_in f 3 (by omega), nm_r e (main _ (Or.inr ⟨rfl, z3⟩))⟩⟩)
theorem ae_writeAll {post : St2 → Prop} {k L : Nat} {H : Nat → Nat → Int32} {E : Nat → Nat} (hk : k ≤ 3) (hL : L ≤ 300) (hfc : fc = nI k) (h : ae_pool k L H E se hd a1 a2 a12 a13 a14 a15)
    (hpost : ∀ (se' : Int32) (b1 b2 b15 : Nat → Int32), ae_pool k L H E se' hd b1 b2 a12 a13 a14 b15 → (∀ f p, f < k → p < 4 → a12 f = nI p → b2 p = nI (E p)) → post (se', ce, le, fc, hd, sl, b1, b2, a3, a4, a5, a6, a7, a8, a9, a10, a11, a12, a13, a14, b15, a16, a17, a18, a19, a20)) :
    wpX_writeAllPages post (se, ce, le, fc, hd, sl, a1, a2, a3, a4, a5, a6, a7, a8, a9, a10, a11, a12, a13, a14, a15, a16, a17, a18, a19, a20) := by
  subst hfc
  exact pk_loop (σ := Int32 × (Nat → Int32) × (Nat → Int32) × (Nat → Int32)) (fun n i s => wX_writeAllPages_2 post n (nI i) (s.1) ce le (nI k) hd sl (s.2.1) (s.2.2.1) a3 a4 a5 a6 a7 a8 a9 a10 a11 a12 a13 a14 (s.2.2.2) a16 a17 a18 a19 a20)
    (fun i s => ae_pool k L H E s.1 hd s.2.1 s.2.2.1 a12 a13 a14 s.2.2.2 ∧ (∀ f p, f < i → p < 4 → a12 f = nI p → s.2.2.1 p = nI (E p))) k 0 (se, a1, a2, a15) (by omega) ⟨h, fun f p hf => absurd hf (by omega)⟩
    (fun n s h => pk_le k k (fun _ => hpost _ _ _ _ h.1 h.2) (fun z => absurd z (by omega)))
    (fun n i s hi h hw => pk_le k i (fun z => absurd z (by omega)) (fun _ => ae_writePage hk hL h.1 hi (fun se' b1 b2 b15 h' g1 g2 => nm_r (nI_1 i) (hw (se', b1, b2, b15) ⟨h', fun f p hf hp e => by
      by_cases g : f = i
      · rw [g] at e
        exact g1 p hp e
      · exact g2 p hp (h.2 f p (by omega) hp e)⟩))))
theorem ae_bi75 {post : Int32 → St2 → Prop} {f p : Nat} (hf : f < 3) (hp : p < 4)
    (hpost : ∀ b13 : Nat → Int32, (∀ i, i < 4 → b13 (4 * f + i) = a1 (4 * p + i)) → (∀ q i, i < 4 → q ≠ f → b13 (4 * q + i) = a13 (4 * q + i)) → post (nI f) (se, ce, le, fc, hd, sl, a1, a2, a3, a4, a5, a6, a7, a8, a9, a10, a11, a12, b13, upd a14 f (vp_nar .short (a2 p)), upd a15 f 0, a16, a17, a18, a19, a20)) :
    ∃ n, wX_bringIn_75 post (nI p) (nI f) se ce le fc hd sl n 0 a1 a2 a3 a4 a5 a6 a7 a8 a9 a10 a11 a12 a13 a14 a15 a16 a17 a18 a19 a20 :=
  pk_loop (fun n i s => wX_bringIn_75 post (nI p) (nI f) se ce le fc hd sl n (nI i) a1 a2 a3 a4 a5 a6 a7 a8 a9 a10 a11 a12 s a14 a15 a16 a17 a18 a19 a20) (fun i s => (∀ j, j < i → s (4 * f + j) = a1 (4 * p + j)) ∧ (∀ q j, j < 4 → q ≠ f → s (4 * q + j) = a13 (4 * q + j))) 4 0 a13 (by omega) ⟨fun j hj => absurd hj (by omega), fun q j _ _ => rfl⟩
    (fun n s h => pk_le 4 4 (fun _ => ⟨pk_in p 4 hp, pk_in f 3 hf, nm_r (by rw [nI_clamp (by omega), nI_clamp (by omega)]) ⟨pk_in f 3 hf, nm_r (by rw [nI_clamp (by omega)]) (hpost s h.1 h.2)⟩⟩) (fun z => absurd z (by omega)))
    (fun n i s hi h hw => pk_le 4 i (fun z => absurd z (by omega)) (fun _ => ⟨pk_in (4 * p + i) 16 (by omega) (ae_ix p i), pk_in (4 * f + i) 12 (by omega) (ae_ix f i), nm_e (nm_r (nI_1 i) (hw _ (ae_fill4 (g := fun j => a1 (4 * p + j)) hi (pk_cl (4 * f + i) (ae_ix f i)) (by rw [pk_cl (4 * p + i) (ae_ix p i)]) h)))⟩))
theorem ae_bi57 {post : Int32 → St2 → Prop} {k L : Nat} {H : Nat → Nat → Int32} {E : Nat → Nat} (hk : k ≤ 3) (hL : L ≤ 300) (h : ae_pool k L H E se hd a1 a2 a12 a13 a14 a15) {h0 h1 p : Nat} (hh : h0 < k) (hh1 : h1 < k) (hp : p < 4) (hn : ∀ f, f < k → a12 f ≠ nI p)
    (hpost : ∀ (f : Nat) (se' hd' : Int32) (b1 b2 b12 b13 b14 b15 : Nat → Int32), f < k → b12 f = nI p → ae_pool k L H E se' hd' b1 b2 b12 b13 b14 b15 → post (nI f) (se', ce, le, fc, hd', sl, b1, b2, a3, a4, a5, a6, a7, a8, a9, a10, a11, b12, b13, b14, b15, a16, a17, a18, a19, a20)) :
    wX_bringIn_57 post (nI p) (nI h0) (nI h1) se ce le fc hd sl a1 a2 a3 a4 a5 a6 a7 a8 a9 a10 a11 a12 a13 a14 a15 a16 a17 a18 a19 a20 := by
  unfold wX_bringIn_57
  refine ae_writePage hk hL (ae_pool_hd h ⟨h1, hh1, rfl⟩) hh (fun se' b1 b2 b15 h' g1 g2 => ?_)
  refine ⟨pk_in h0 3 (by omega), nm_r (e' := upd a12 h0 (nI p)) (by rw [nI_clamp (by omega), ae_by8 p (by omega)]) (ae_bi75 (by omega) hp (fun b13 k1 k2 => ?_))⟩
  have ep := h'.2.2.2.2.2.1 p hp hn
  have hEp := h'.2.2.1 p hp
  refine hpost h0 se' (nI h1) b1 b2 _ b13 _ _ hh pk_us ?_
  rw [ep, ae_ns (by omega), ← ep]
  exact ae_pool_load hL h' hh hp hn g1 ⟨h1, hh1, rfl⟩ k1 (fun g i hi hg => k2 g i hi hg)
theorem ae_bringIn {post : Int32 → St2 → Prop} {k L : Nat} {H : Nat → Nat → Int32} {E : Nat → Nat} (hk : k ≤ 3) (hL : L ≤ 300) (hfc : fc = nI k) (h : ae_pool k L H E se hd a1 a2 a12 a13 a14 a15) {p : Nat} {x : Int32} (hx : x = nI p) (hp : p < 4)
    (hpost : ∀ (f : Nat) (se' hd' : Int32) (b1 b2 b12 b13 b14 b15 : Nat → Int32), f < k → b12 f = nI p → ae_pool k L H E se' hd' b1 b2 b12 b13 b14 b15 → post (nI f) (se', ce, le, fc, hd', sl, b1, b2, a3, a4, a5, a6, a7, a8, a9, a10, a11, b12, b13, b14, b15, a16, a17, a18, a19, a20)) :
    wpX_bringIn post (se, ce, le, fc, hd, sl, a1, a2, a3, a4, a5, a6, a7, a8, a9, a10, a11, a12, a13, a14, a15, a16, a17, a18, a19, a20) x := by
  subst hfc hx
  by_cases hx : ∃ f, f < k ∧ a12 f = nI p
  · obtain ⟨f, hf, ef⟩ := hx
    exact pk_loop (σ := Unit) (fun n i _ => wX_bringIn_2 post (nI p) se ce le (nI k) hd sl a1 a2 a3 a4 a5 a6 a7 a8 a9 a10 a11 a12 a13 a14 a15 a16 a17 a18 a19 a20 n (nI i)) (fun _ _ => True) f 0 () (by omega) trivial
      (fun n _ _ => pk_le k f (fun z => absurd z (by omega)) (fun _ => ⟨pk_in f 3 (by omega), br_t (by rw [nI_clamp (by omega)]; exact ef) (hpost f se hd a1 a2 a12 a13 a14 a15 hf ef h)⟩))
      (fun n i _ hi _ hw => pk_le k i (fun z => absurd z (by omega)) (fun _ => ⟨pk_in i 3 (by omega), br_f (by rw [nI_clamp (by omega)]; exact fun e => absurd (h.2.2.2.2.1 i f p (by omega) hf hp e ef) (by omega)) (nm_r (nI_1 i) (hw () trivial))⟩))
  · have hn : ∀ f, f < k → a12 f ≠ nI p := fun f hf e => hx ⟨f, hf, e⟩
    obtain ⟨h0, hh, eh⟩ := h.1
    subst eh
    exact pk_loop (σ := Unit) (fun n i _ => wX_bringIn_2 post (nI p) se ce le (nI k) (nI h0) sl a1 a2 a3 a4 a5 a6 a7 a8 a9 a10 a11 a12 a13 a14 a15 a16 a17 a18 a19 a20 n (nI i)) (fun _ _ => True) k 0 () (by omega) trivial
      (fun n _ _ => pk_le k k (fun _ => pk_le k (h0 + 1) (fun z => ae_bi57 (h1 := 0) hk hL h hh (by omega) hp hn hpost) (fun z => by
        rw [nI_1 h0]
        exact ae_bi57 hk hL h hh (by omega) hp hn hpost) (hy := nI_1 h0)) (fun z => absurd z (by omega)))
      (fun n i _ hi _ hw => pk_le k i (fun z => absurd z (by omega)) (fun _ => ⟨pk_in i 3 (by omega), br_f (by rw [nI_clamp (by omega)]; exact hn i hi) (nm_r (nI_1 i) (hw () trivial))⟩))
theorem ae_read {post : Int32 → St2 → Prop} {k L : Nat} {H : Nat → Nat → Int32} {C : Nat → Int32} (hk : k ≤ 3) (hL : L ≤ 300) (hfc : fc = nI k) (h : ae_nrm k L H C se hd a1 a2 a12 a13 a14 a15) {c : Nat} (hc : c < 16)
    (hpost : ∀ (se' hd' : Int32) (b1 b2 b12 b13 b14 b15 : Nat → Int32), ae_nrm k L H C se' hd' b1 b2 b12 b13 b14 b15 → post (C c) (se', ce, le, fc, hd', sl, b1, b2, a3, a4, a5, a6, a7, a8, a9, a10, a11, b12, b13, b14, b15, a16, a17, a18, a19, a20)) :
    wpX_read post (se, ce, le, fc, hd, sl, a1, a2, a3, a4, a5, a6, a7, a8, a9, a10, a11, a12, a13, a14, a15, a16, a17, a18, a19, a20) (nI c) := by
  obtain ⟨E, h, hC⟩ := h
  unfold wpX_read
  dsimp only
  refine br_f (nI_pos (by omega)) (pk_le c 15 (fun _ => ?_) (fun z => absurd z (by omega)))
  refine ae_bringIn hk hL hfc h (ae_pg c hc) (by omega) (fun f se' hd' b1 b2 b12 b13 b14 b15 hf ef h' => ?_)
  have ei : (4 : Int32) * nI f + (nI c &&& 3) = nI (4 * f + c % 4) := by rw [ae_lo c hc, ae_ix]
  have ev : b13 (4 * f + c % 4) = C c := by
    rw [(h'.2.2.2.2.2.2 f (c / 4) hf (by omega) ef).2.1 (c % 4) (by omega), show 4 * (c / 4) + c % 4 = c by omega, hC c hc]
  refine ⟨pk_in (4 * f + c % 4) 12 (by omega) ei, ?_⟩
  dsimp only
  rw [ei, nI_clamp (by omega), ev]
  exact hpost se' hd' b1 b2 b12 b13 b14 b15 ⟨E, h', hC⟩
theorem ae_makeRoom {post : St2 → Prop} {L : Nat} (hle : le = nI L) (hL : L ≤ 180) (hpost : post (se, ce, le, fc, hd, sl, a1, a2, a3, a4, a5, a6, a7, a8, a9, a10, a11, a12, a13, a14, a15, a16, a17, a18, a19, a20)) : wpX_makeRoom post (se, ce, le, fc, hd, sl, a1, a2, a3, a4, a5, a6, a7, a8, a9, a10, a11, a12, a13, a14, a15, a16, a17, a18, a19, a20) := by
  subst hle
  exact br_f (nI_nlt (b := L) (a := 180) (by omega) (by omega)) hpost
theorem ae_append {post : St2 → Prop} {L x c l : Nat} {K old new lk : Int32} (hle : le = nI L) (hL : L < 300) (hx : x < 3) (hc : c < 16) (hlk : lk = nI l) (hl : l ≤ 300) (hK : K.toInt8.toInt32 = K)
    (hpost : post (se, ce, nI (L + 1), fc, hd, sl, a1, a2, a3, a4, upd a5 (L + 1) K, upd a6 (L + 1) (nI x), upd a7 (L + 1) (nI c), upd a8 (L + 1) old, upd a9 (L + 1) new, upd a10 (L + 1) (nI l), a11, a12, a13, a14, a15, a16, a17, a18, upd a19 x (nI (L + 1)), a20)) :
    wpX_append post (se, ce, le, fc, hd, sl, a1, a2, a3, a4, a5, a6, a7, a8, a9, a10, a11, a12, a13, a14, a15, a16, a17, a18, a19, a20) K (nI x) (nI c) old new lk := by
  subst hle hlk
  have e1 : (nI (L + 1)).toNatClampNeg = L + 1 := nI_clamp (by omega)
  have i1 : vp_in (nI (L + 1)) 301 := pk_in (L + 1) 301 (by omega)
  unfold wpX_append
  dsimp only
  refine nm_r (nI_1 L) ?_
  rw [e1, hK, ae_by8 x (by omega), ae_by8 c (by omega), ae_sh16 l (by omega), ae_sh16 (L + 1) (by omega), nI_clamp (show x < 2 ^ 31 by omega)]
  exact ⟨i1, nm_e ⟨i1, nm_e ⟨i1, nm_e ⟨i1, nm_e ⟨i1, nm_e ⟨i1, nm_e ⟨pk_in x 3 hx, nm_e hpost⟩⟩⟩⟩⟩⟩⟩
theorem ae_applyEntry {post : St2 → Prop} {f c n : Nat} {v : Int32} (hf : f < 3) (hc : c < 16) (hn : n ≤ 300)
    (hpost : ∀ b15 : Nat → Int32, ((b15 = a15 ∧ ¬ a15 f = 0) ∨ b15 = upd a15 f (nI n)) → post (se, ce, le, fc, hd, sl, a1, a2, a3, a4, a5, a6, a7, a8, a9, a10, a11, a12, upd a13 (4 * f + c % 4) v, upd a14 f (nI n), b15, a16, a17, a18, a19, a20)) :
    wpX_applyEntry post (se, ce, le, fc, hd, sl, a1, a2, a3, a4, a5, a6, a7, a8, a9, a10, a11, a12, a13, a14, a15, a16, a17, a18, a19, a20) (nI f) (nI c) v (nI n) := by
  have ei : (4 : Int32) * nI f + (nI c &&& 3) = nI (4 * f + c % 4) := by rw [ae_lo c hc, ae_ix]
  unfold wpX_applyEntry
  dsimp only
  rw [ei, nI_clamp (show 4 * f + c % 4 < 2 ^ 31 by omega), nI_clamp (show f < 2 ^ 31 by omega), ae_sh16 n (by omega)]
  exact ⟨pk_in (4 * f + c % 4) 12 (by omega), nm_e ⟨pk_in f 3 hf, nm_e ⟨pk_in f 3 hf, br_c (fun z => ⟨pk_in f 3 hf, nm_e (hpost _ (Or.inr rfl))⟩) (fun z => hpost _ (Or.inl ⟨rfl, z⟩))⟩⟩⟩
theorem ae_apply {post : St2 → Prop} {f c n : Nat} {v : Int32} (hle : le = nI n) (hf : f < 3) (hc : c < 16) (hn : n ≤ 300)
    (hpost : ∀ b15 : Nat → Int32, ((b15 = a15 ∧ ¬ a15 f = 0) ∨ b15 = upd a15 f (nI n)) → post (se, ce, le, fc, hd, sl, a1, a2, a3, a4, a5, a6, a7, a8, a9, a10, a11, a12, upd a13 (4 * f + c % 4) v, upd a14 f (nI n), b15, a16, a17, a18, a19, a20)) :
    wpX_apply post (se, ce, le, fc, hd, sl, a1, a2, a3, a4, a5, a6, a7, a8, a9, a10, a11, a12, a13, a14, a15, a16, a17, a18, a19, a20) (nI f) (nI c) v := by
  subst hle
  unfold wpX_apply
  exact ae_applyEntry hf hc hn hpost
end
/-- how many of the low sixteen bits are set -/
def ae_bits (x : Int32) : Nat → Int32
  | 0 => 0
  | n + 1 => ae_bits x n + ((x >>> (nI n &&& 31)) &&& 1)
theorem ae_bits1 : ∀ a, a < 16 → ae_bits ((1 : Int32) <<< (nI a &&& 31)) 16 = 1 := by decide +kernel
theorem ae_bit : ∀ a, a < 16 → ∀ b, b < 16 → ((((1 : Int32) <<< (nI a &&& 31)) >>> (nI b &&& 31)) &&& 1 = 0 ↔ a ≠ b) := by decide +kernel
theorem ae_bit0 : ∀ b, b < 16 → ((0 : Int32) >>> (nI b &&& 31)) &&& 1 = 0 := by decide +kernel
section
variable {se ce le fc hd sl : Int32} {a1 a2 a3 a4 a5 a6 a7 a8 a9 a10 a11 a12 a13 a14 a15 a16 a17 a18 a19 a20 : Nat → Int32}
theorem ae_bitsIn {post : Int32 → Prop} {x : Int32} (h : post (ae_bits x 16)) : wpX_bitsIn post (se, ce, le, fc, hd, sl, a1, a2, a3, a4, a5, a6, a7, a8, a9, a10, a11, a12, a13, a14, a15, a16, a17, a18, a19, a20) x :=
  pk_loop (σ := Unit) (fun n i _ => wX_bitsIn_4 post x se ce le fc hd sl a1 a2 a3 a4 a5 a6 a7 a8 a9 a10 a11 a12 a13 a14 a15 a16 a17 a18 a19 a20 n (ae_bits x i) (nI i)) (fun _ _ => True) 16 0 () (by omega) trivial
    (fun n _ _ => pk_le 16 16 (fun _ => h) (fun z => absurd z (by omega)))
    (fun n i _ hi _ hw => pk_le 16 i (fun z => absurd z (by omega)) (fun _ => nm_e (nm_r (nI_1 i) (hw () trivial))))
theorem ae_fn54 {post : St2 → Prop} (hpost : ∀ b14 b15 : Nat → Int32, (∀ j, j < 3 → b14 j = 0) → (∀ j, j < 3 → b15 j = 0) → post (se, ce, le, fc, hd, sl, a1, a2, a3, a4, a5, a6, a7, a8, a9, a10, a11, a12, a13, b14, b15, a16, a17, a18, a19, a20)) : ∃ n, wX_forgetNumbers_54 post se ce le fc hd sl n 0 a1 a2 a3 a4 a5 a6 a7 a8 a9 a10 a11 a12 a13 a14 a15 a16 a17 a18 a19 a20 :=
  pk_loop (σ := (Nat → Int32) × (Nat → Int32)) (fun n i s => wX_forgetNumbers_54 post se ce le fc hd sl n (nI i) a1 a2 a3 a4 a5 a6 a7 a8 a9 a10 a11 a12 a13 (s.1) (s.2) a16 a17 a18 a19 a20) (fun i s => (∀ j, j < i → s.1 j = 0) ∧ (∀ j, j < i → s.2 j = 0)) 3 0 (a14, a15) (by omega) ⟨lt_0, lt_0⟩
    (fun n s h => pk_le 3 3 (fun _ => hpost _ _ h.1 h.2) (fun z => absurd z (by omega)))
    (fun n i s hi h hw => pk_le 3 i (fun z => absurd z (by omega)) (fun _ => ⟨pk_in i 3 hi, nm_e ⟨pk_in i 3 hi, nm_e (nm_r (nI_1 i) (hw (_, _) ⟨ae_fillc (nI_clamp (by omega)) h.1, ae_fillc (nI_clamp (by omega)) h.2⟩))⟩⟩))
theorem ae_fn27 {post : St2 → Prop} (hpost : ∀ b2 b4 b14 b15 : Nat → Int32, (∀ j, j < 4 → b2 j = 0) → (∀ j, j < 3 → b14 j = 0) → (∀ j, j < 3 → b15 j = 0) → post (se, ce, le, fc, hd, sl, a1, b2, a3, b4, a5, a6, a7, a8, a9, a10, a11, a12, a13, b14, b15, a16, a17, a18, a19, a20)) : ∃ n, wX_forgetNumbers_27 post se ce le fc hd sl n 0 a1 a2 a3 a4 a5 a6 a7 a8 a9 a10 a11 a12 a13 a14 a15 a16 a17 a18 a19 a20 :=
  pk_loop (σ := (Nat → Int32) × (Nat → Int32)) (fun n i s => wX_forgetNumbers_27 post se ce le fc hd sl n (nI i) a1 (s.1) a3 (s.2) a5 a6 a7 a8 a9 a10 a11 a12 a13 a14 a15 a16 a17 a18 a19 a20) (fun i s => (∀ j, j < i → s.1 j = 0)) 4 0 (a2, a4) (by omega) lt_0
    (fun n s h => pk_le 4 4 (fun _ => ae_fn54 (fun b14 b15 h14 h15 => hpost _ _ b14 b15 h h14 h15)) (fun z => absurd z (by omega)))
    (fun n i s hi h hw => pk_le 4 i (fun z => absurd z (by omega)) (fun _ => ⟨pk_in i 4 hi, nm_e ⟨pk_in i 4 hi, nm_e (nm_r (nI_1 i) (hw (_, _) (ae_fillc (nI_clamp (by omega)) h)))⟩⟩))
theorem ae_forget {post : St2 → Prop} (hpost : ∀ b2 b3 b4 b14 b15 : Nat → Int32, (∀ j, j < 4 → b2 j = 0) → (∀ j, j < 3 → b14 j = 0) → (∀ j, j < 3 → b15 j = 0) → post (se, 0, le, fc, hd, sl, a1, b2, b3, b4, a5, a6, a7, a8, a9, a10, a11, a12, a13, b14, b15, a16, a17, a18, a19, a20)) : wpX_forgetNumbers post (se, ce, le, fc, hd, sl, a1, a2, a3, a4, a5, a6, a7, a8, a9, a10, a11, a12, a13, a14, a15, a16, a17, a18, a19, a20) :=
  pk_loop (fun n i s => wX_forgetNumbers_7 post se 0 le fc hd sl n (nI i) a1 a2 s a4 a5 a6 a7 a8 a9 a10 a11 a12 a13 a14 a15 a16 a17 a18 a19 a20) (fun _ _ => True) 3 0 a3 (by omega) trivial
    (fun n s h => pk_le 3 3 (fun _ => ae_fn27 (fun b2 b4 b14 b15 h2 h14 h15 => hpost b2 s b4 b14 b15 h2 h14 h15)) (fun z => absurd z (by omega)))
    (fun n i s hi h hw => pk_le 3 i (fun z => absurd z (by omega)) (fun _ => ⟨pk_in i 3 hi, nm_e (nm_r (nI_1 i) (hw _ trivial))⟩))
end
end
section
section
variable {se ce le fc hd sl : Int32} {a1 a2 a3 a4 a5 a6 a7 a8 a9 a10 a11 a12 a13 a14 a15 a16 a17 a18 a19 a20 : Nat → Int32}
theorem ae_isT {post : Int32 → Prop} {t : Nat} (ht : t < 3) (h : post 1) : wpX_isTransaction post (se, ce, le, fc, hd, sl, a1, a2, a3, a4, a5, a6, a7, a8, a9, a10, a11, a12, a13, a14, a15, a16, a17, a18, a19, a20) (nI t) := by
  unfold wpX_isTransaction
  dsimp only
  exact br_f (nI_pos (by omega)) (pk_lt 2 t (fun z => absurd z (by omega)) (fun _ => h))
theorem ae_begin {post : Int32 → St2 → Prop} {t : Nat} (ht : t < 3) (h16 : a16 t = 0) (hpost : post (nI t) (se, ce, le, fc, hd, sl, a1, a2, a3, a4, a5, a6, a7, a8, a9, a10, a11, a12, a13, a14, a15, upd a16 t 1, upd a17 t 0, upd a18 t 0, upd a19 t 0, upd a20 t 0)) :
    wpX_begin post (se, ce, le, fc, hd, sl, a1, a2, a3, a4, a5, a6, a7, a8, a9, a10, a11, a12, a13, a14, a15, a16, a17, a18, a19, a20) (nI t) := by
  have i3 : vp_in (nI t) 3 := pk_in t 3 ht
  unfold wpX_begin
  dsimp only
  refine ae_isT ht (br_f (by decide) ?_)
  rw [nI_clamp (show t < 2 ^ 31 by omega)]
  exact ⟨i3, br_t h16 ⟨i3, nm_e ⟨i3, nm_e ⟨i3, nm_e ⟨i3, nm_e ⟨i3, nm_e hpost⟩⟩⟩⟩⟩⟩
theorem ae_mark {post : Int32 → St2 → Prop} {t l : Nat} (ht : t < 3) (h16 : ¬ a16 t = 0) (h19 : a19 t = nI l) (hl : l ≤ 300) (hpost : post (nI t) (se, ce, le, fc, hd, sl, a1, a2, a3, a4, a5, a6, a7, a8, a9, a10, a11, a12, a13, a14, a15, a16, a17, a18, a19, upd a20 t (nI l))) : wpX_mark post (se, ce, le, fc, hd, sl, a1, a2, a3, a4, a5, a6, a7, a8, a9, a10, a11, a12, a13, a14, a15, a16, a17, a18, a19, a20) (nI t) := by
  have i3 : vp_in (nI t) 3 := pk_in t 3 ht
  unfold wpX_mark
  dsimp only
  refine ae_isT ht (br_f (by decide) ?_)
  rw [nI_clamp (show t < 2 ^ 31 by omega), h19, ae_ns hl]
  exact ⟨i3, br_f h16 ⟨i3, i3, nm_e hpost⟩⟩
theorem ae_check {post : Int32 → Prop} {t c : Nat} (ht : t < 3) (hc : c < 16) (h16 : ¬ a16 t = 0) (h18 : a18 t < 20)
    (h0 : (∀ x, x < 3 → x ≠ t → a16 x = 0 ∨ (a17 x >>> (nI c &&& 31)) &&& 1 = 0) → post 0)
    (h3 : ∀ x, x < 3 → x ≠ t → ¬ a16 x = 0 → ¬ (a17 x >>> (nI c &&& 31)) &&& 1 = 0 → post (-3)) : wpX_check post (se, ce, le, fc, hd, sl, a1, a2, a3, a4, a5, a6, a7, a8, a9, a10, a11, a12, a13, a14, a15, a16, a17, a18, a19, a20) (nI t) (nI c) := by
  have i3 : vp_in (nI t) 3 := pk_in t 3 ht
  have et : (nI t).toNatClampNeg = t := nI_clamp (by omega)
  unfold wpX_check
  dsimp only
  refine ae_isT ht (br_f (by decide) (br_f (nI_pos (by omega)) (pk_le c 15 (fun _ => ?_) (fun z => absurd z (by omega)))))
  rw [et]
  refine ⟨i3, br_f h16 ?_⟩
  refine pk_loop (σ := Unit) (fun n i _ => wX_check_34 post (nI t) (nI c) se ce le fc hd sl a1 a2 a3 a4 a5 a6 a7 a8 a9 a10 a11 a12 a13 a14 a15 a16 a17 a18 a19 a20 n (nI i)) (fun i _ => ∀ x, x < i → x ≠ t → a16 x = 0 ∨ (a17 x >>> (nI c &&& 31)) &&& 1 = 0) 3 0 () (by omega) lt_0 ?_ ?_
  · intro n s hI
    refine pk_le 3 3 (fun _ => ⟨i3, ?_⟩) (fun z => absurd z (by omega))
    rw [et]
    exact br_t h18 (h0 hI)
  · intro n i s hi hI hw
    have ei : (nI i).toNatClampNeg = i := nI_clamp (by omega)
    have j3 : vp_in (nI i) 3 := pk_in i 3 hi
    refine pk_le 3 i (fun z => absurd z (by omega)) (fun _ => ?_)
    rw [ei]
    refine pk_eq i t (fun e => nm_r (nI_1 i) (hw () (lt_s hI (fun z => absurd e z)))) (fun e => ⟨j3, br_c (fun z => nm_r (nI_1 i) (hw () (lt_s hI (fun _ => Or.inl z)))) (fun z => ⟨j3, br_c (fun z2 => nm_r (nI_1 i) (hw () (lt_s hI (fun _ => Or.inr z2)))) (fun z2 => h3 i hi e z z2)⟩)⟩)
theorem ae_change {post : Int32 → St2 → Prop} {k L t c l : Nat} {H : Nat → Nat → Int32} {C : Nat → Int32} {v : Int32} (hk : k ≤ 3) (hL : L ≤ 180) (hfc : fc = nI k) (hle : le = nI L) (h : ae_nrm k L H C se hd a1 a2 a12 a13 a14 a15)
    (ht : t < 3) (hc : c < 16) (h19 : a19 t = nI l) (hl : l ≤ 300)
    (hpost : ∀ (se' hd' : Int32) (b1 b2 b12 b13 b14 b15 : Nat → Int32), ae_nrm k (L + 1) (ae_ext H (L + 1) (upd C c v)) (upd C c v) se' hd' b1 b2 b12 b13 b14 b15 →
      post (ae_bits (a17 t ||| ((1 : Int32) <<< (nI c &&& 31))) 16) (se', ce, nI (L + 1), fc, hd', sl, b1, b2, a3, a4, upd a5 (L + 1) 0, upd a6 (L + 1) (nI t), upd a7 (L + 1) (nI c), upd a8 (L + 1) (C c), upd a9 (L + 1) v, upd a10 (L + 1) (nI l), a11, b12, b13, b14, b15, a16, upd a17 t (a17 t ||| ((1 : Int32) <<< (nI c &&& 31))), upd a18 t ((a18 t + 1).toInt8.toInt32), upd a19 t (nI (L + 1)), a20)) :
    wpX_change post (se, ce, le, fc, hd, sl, a1, a2, a3, a4, a5, a6, a7, a8, a9, a10, a11, a12, a13, a14, a15, a16, a17, a18, a19, a20) (nI t) (nI c) v := by
  obtain ⟨E, h, hC⟩ := h
  have i3 : vp_in (nI t) 3 := pk_in t 3 ht
  have et : (nI t).toNatClampNeg = t := nI_clamp (by omega)
  unfold wpX_change
  dsimp only
  refine ae_makeRoom hle hL ?_
  dsimp only
  refine ae_bringIn hk (by omega) hfc h (ae_pg c hc) (by omega) (fun f se' hd' b1 b2 b12 b13 b14 b15 hf ef h' => ?_)
  dsimp only
  have ei : (4 : Int32) * nI f + (nI c &&& 3) = nI (4 * f + c % 4) := by rw [ae_lo c hc, ae_ix]
  have ev : b13 (4 * f + c % 4) = C c := by
    rw [(h'.2.2.2.2.2.2 f (c / 4) hf (by omega) ef).2.1 (c % 4) (by omega), show 4 * (c / 4) + c % 4 = c by omega, hC c hc]
  refine ⟨pk_in (4 * f + c % 4) 12 (by omega) ei, nm_r (e' := C c) (by rw [ei, nI_clamp (by omega), ev]) ⟨i3, ?_⟩⟩
  refine ae_append hle (by omega) ht hc (by rw [et]; exact h19) hl (by decide) ?_
  dsimp only
  refine ae_apply rfl (by omega) hc (by omega) (fun c15 h15 => ?_)
  dsimp only
  refine ⟨i3, i3, nm_r (e' := upd a17 t (a17 t ||| ((1 : Int32) <<< (nI c &&& 31)))) (by rw [et]) ⟨i3, i3, nm_r (e' := upd a18 t ((a18 t + 1).toInt8.toInt32)) (by rw [et]) ⟨i3, ae_bitsIn ?_⟩⟩⟩
  rw [et, pk_us]
  obtain ⟨q1, q2⟩ := ae_pool_new (v := v) (by omega) h' hC hf hc ef h15
  exact hpost _ _ _ _ _ _ _ _ ⟨_, q1, q2⟩
theorem ae_write {post : Int32 → St2 → Prop} {k L t c l : Nat} {H : Nat → Nat → Int32} {C : Nat → Int32} {v : Int32} (hk : k ≤ 3) (hL : L ≤ 180) (hfc : fc = nI k) (hle : le = nI L) (h : ae_nrm k L H C se hd a1 a2 a12 a13 a14 a15)
    (ht : t < 3) (hc : c < 16) (h19 : a19 t = nI l) (hl : l ≤ 300) (h16 : ¬ a16 t = 0) (h18 : a18 t < 20) (hfree : ∀ x, x < 3 → x ≠ t → a16 x = 0 ∨ (a17 x >>> (nI c &&& 31)) &&& 1 = 0)
    (hpost : ∀ (se' hd' : Int32) (b1 b2 b12 b13 b14 b15 : Nat → Int32), ae_nrm k (L + 1) (ae_ext H (L + 1) (upd C c v)) (upd C c v) se' hd' b1 b2 b12 b13 b14 b15 →
      post (ae_bits (a17 t ||| ((1 : Int32) <<< (nI c &&& 31))) 16) (se', ce, nI (L + 1), fc, hd', sl, b1, b2, a3, a4, upd a5 (L + 1) 0, upd a6 (L + 1) (nI t), upd a7 (L + 1) (nI c), upd a8 (L + 1) (C c), upd a9 (L + 1) v, upd a10 (L + 1) (nI l), a11, b12, b13, b14, b15, a16, upd a17 t (a17 t ||| ((1 : Int32) <<< (nI c &&& 31))), upd a18 t ((a18 t + 1).toInt8.toInt32), upd a19 t (nI (L + 1)), a20)) :
    wpX_write post (se, ce, le, fc, hd, sl, a1, a2, a3, a4, a5, a6, a7, a8, a9, a10, a11, a12, a13, a14, a15, a16, a17, a18, a19, a20) (nI t) (nI c) v := by
  unfold wpX_write
  dsimp only
  refine ae_check ht hc h16 h18 (fun _ => br_t rfl (ae_change hk hL hfc hle h ht hc h19 hl hpost)) (fun x hx hxt z1 z2 => ?_)
  rcases hfree x hx hxt with e | e
  · exact absurd e z1
  · exact absurd e z2
theorem ae_add {post : Int32 → St2 → Prop} {k L t c l : Nat} {H : Nat → Nat → Int32} {C : Nat → Int32} {m v : Int32} (hk : k ≤ 3) (hL : L ≤ 180) (hfc : fc = nI k) (hle : le = nI L) (h : ae_nrm k L H C se hd a1 a2 a12 a13 a14 a15)
    (ht : t < 3) (hc : c < 16) (h19 : a19 t = nI l) (hl : l ≤ 300) (h16 : ¬ a16 t = 0) (h18 : a18 t < 20) (hfree : ∀ x, x < 3 → x ≠ t → a16 x = 0 ∨ (a17 x >>> (nI c &&& 31)) &&& 1 = 0) (hv : C c + m = v)
    (hpost : ∀ (se' hd' : Int32) (b1 b2 b12 b13 b14 b15 : Nat → Int32), ae_nrm k (L + 1) (ae_ext H (L + 1) (upd C c v)) (upd C c v) se' hd' b1 b2 b12 b13 b14 b15 →
      post (ae_bits (a17 t ||| ((1 : Int32) <<< (nI c &&& 31))) 16) (se', ce, nI (L + 1), fc, hd', sl, b1, b2, a3, a4, upd a5 (L + 1) 0, upd a6 (L + 1) (nI t), upd a7 (L + 1) (nI c), upd a8 (L + 1) (C c), upd a9 (L + 1) v, upd a10 (L + 1) (nI l), a11, b12, b13, b14, b15, a16, upd a17 t (a17 t ||| ((1 : Int32) <<< (nI c &&& 31))), upd a18 t ((a18 t + 1).toInt8.toInt32), upd a19 t (nI (L + 1)), a20)) :
    wpX_add post (se, ce, le, fc, hd, sl, a1, a2, a3, a4, a5, a6, a7, a8, a9, a10, a11, a12, a13, a14, a15, a16, a17, a18, a19, a20) (nI t) (nI c) m := by
  unfold wpX_add
  dsimp only
  refine ae_check ht hc h16 h18 (fun _ => br_t rfl ?_) (fun x hx hxt z1 z2 => ?_)
  · exact ae_read hk (by omega) hfc h hc (fun se' hd' b1 b2 b12 b13 b14 b15 h' => nm_r hv (ae_change hk hL hfc hle h' ht hc h19 hl hpost))
  · rcases hfree x hx hxt with e | e
    · exact absurd e z1
    · exact absurd e z2
theorem ae_addHeld {post : Int32 → St2 → Prop} {t c x : Nat} {m : Int32} (ht : t < 3) (hc : c < 16) (h16 : ¬ a16 t = 0) (h18 : a18 t < 20) (hx : x < 3) (hxt : x ≠ t) (g1 : ¬ a16 x = 0) (g2 : ¬ (a17 x >>> (nI c &&& 31)) &&& 1 = 0) (hpost : post (-3) (se, ce, le, fc, hd, sl, a1, a2, a3, a4, a5, a6, a7, a8, a9, a10, a11, a12, a13, a14, a15, a16, a17, a18, a19, a20)) :
    wpX_add post (se, ce, le, fc, hd, sl, a1, a2, a3, a4, a5, a6, a7, a8, a9, a10, a11, a12, a13, a14, a15, a16, a17, a18, a19, a20) (nI t) (nI c) m := by
  unfold wpX_add
  dsimp only
  refine ae_check ht hc h16 h18 (fun z => ?_) (fun y hy hyt z1 z2 => br_f (by decide) hpost)
  rcases z x hx hxt with e | e
  · exact absurd e g1
  · exact absurd e g2
end
end
section
theorem ae_pred {q : Nat} (h : 0 < q) : nI q - 1 = nI (q - 1) := by
  have e := nI_pred (q - 1)
  rw [Nat.sub_add_cancel h] at e
  exact e
/-- the latest entry of transaction x among the first m (0: none) -/
def ae_last (Who : Nat → Nat) (x : Nat) : Nat → Nat
  | 0 => 0
  | m + 1 => if Who (m + 1) = x then m + 1 else ae_last Who x m
theorem ae_last_le (Who : Nat → Nat) (x m : Nat) : ae_last Who x m ≤ m := by
  induction m with
  | zero => exact Nat.le_refl _
  | succ m ih =>
    unfold ae_last
    split
    · exact Nat.le_refl _
    · omega
/-- what taking back transaction x among the first m entries, those above lim, makes of the cells, and how many it takes back -/
def ae_undo (Who W : Nat → Nat) (Old : Nat → Int32) (lim x : Nat) : Nat → (Nat → Int32) → (Nat → Int32)
  | 0, C => C
  | m + 1, C => if Who (m + 1) = x then (if lim < m + 1 then ae_undo Who W Old lim x m (upd C (W (m + 1)) (Old (m + 1))) else C) else ae_undo Who W Old lim x m C
def ae_cnt (Who : Nat → Nat) (lim x : Nat) : Nat → Nat
  | 0 => 0
  | m + 1 => if Who (m + 1) = x then (if lim < m + 1 then ae_cnt Who lim x m + 1 else 0) else ae_cnt Who lim x m
theorem ae_undo_none {Who W : Nat → Nat} {Old : Nat → Int32} {x : Nat} (m : Nat) (h : ae_last Who x m = 0) (C : Nat → Int32) : ae_undo Who W Old 0 x m C = C := by
  induction m with
  | zero => rfl
  | succ m ih =>
    unfold ae_last at h
    unfold ae_undo
    by_cases e : Who (m + 1) = x
    · rw [if_pos e] at h
      exact absurd h (by omega)
    · rw [if_neg e] at h
      rw [if_neg e]
      exact ih h
/-- the first m entries of the log -/
def ae_log (m : Nat) (Who W : Nat → Nat) (Old New : Nat → Int32) (a5 a6 a7 a8 a9 a10 : Nat → Int32) : Prop :=
  ∀ n, 1 ≤ n → n ≤ m → a5 n = 0 ∧ a6 n = nI (Who n) ∧ Who n < 3 ∧ a7 n = nI (W n) ∧ W n < 16 ∧ a8 n = Old n ∧ a9 n = New n ∧ a10 n = nI (ae_last Who (Who n) (n - 1))
theorem ae_log_keep {m L : Nat} {Who W : Nat → Nat} {Old New : Nat → Int32} {a5 a6 a7 a8 a9 a10 : Nat → Int32} {x5 x6 x7 x8 x9 x10 : Int32} (h : ae_log m Who W Old New a5 a6 a7 a8 a9 a10) (hm : m ≤ L) :
    ae_log m Who W Old New (upd a5 (L + 1) x5) (upd a6 (L + 1) x6) (upd a7 (L + 1) x7) (upd a8 (L + 1) x8) (upd a9 (L + 1) x9) (upd a10 (L + 1) x10) := by
  intro n h1 h2
  have e : n ≠ L + 1 := by omega
  rw [pk_un e, pk_un e, pk_un e, pk_un e, pk_un e, pk_un e]
  exact h n h1 h2
theorem ae_log_add {L t c : Nat} {Who W : Nat → Nat} {Old New : Nat → Int32} {a5 a6 a7 a8 a9 a10 : Nat → Int32} {old v : Int32} (h : ae_log L Who W Old New a5 a6 a7 a8 a9 a10) (hw : Who (L + 1) = t) (ht : t < 3) (hc : W (L + 1) = c) (hc16 : c < 16) (ho : Old (L + 1) = old) (hv : New (L + 1) = v) :
    ae_log (L + 1) Who W Old New (upd a5 (L + 1) 0) (upd a6 (L + 1) (nI t)) (upd a7 (L + 1) (nI c)) (upd a8 (L + 1) old) (upd a9 (L + 1) v) (upd a10 (L + 1) (nI (ae_last Who t L))) := by
  intro n h1 h2
  by_cases e : n = L + 1
  · subst e
    rw [pk_us, pk_us, pk_us, pk_us, pk_us, pk_us, hw, hc, ho, hv]
    exact ⟨rfl, rfl, ht, rfl, hc16, rfl, rfl, rfl⟩
  · exact ae_log_keep h (Nat.le_refl _) n h1 (by omega)
theorem ae_log_le {m L : Nat} {Who W : Nat → Nat} {Old New : Nat → Int32} {a5 a6 a7 a8 a9 a10 : Nat → Int32} (h : ae_log L Who W Old New a5 a6 a7 a8 a9 a10) (hm : m ≤ L) : ae_log m Who W Old New a5 a6 a7 a8 a9 a10 :=
  fun n h1 h2 => h n h1 (by omega)
section
variable {se ce le fc hd sl : Int32} {a1 a2 a3 a4 a5 a6 a7 a8 a9 a10 a11 a12 a13 a14 a15 a16 a17 a18 a19 a20 : Nat → Int32}
theorem ae_undoEntry {post : St2 → Prop} {k L n t c l : Nat} {C : Nat → Int32} {old : Int32} (hk : k ≤ 3) (hL : L < 300) (hfc : fc = nI k) (hle : le = nI L) (h : ae_hold k L C se hd a1 a2 a12 a13 a14 a15) (hn : n ≤ L) (ht : t < 3)
    (h7 : a7 n = nI c) (hc : c < 16) (h8 : a8 n = old) (h10 : a10 n = nI l) (hl : l ≤ 300)
    (hpost : ∀ (se' hd' : Int32) (b1 b2 b12 b13 b14 b15 : Nat → Int32), ae_hold k (L + 1) (upd C c old) se' hd' b1 b2 b12 b13 b14 b15 →
      post (se', ce, nI (L + 1), fc, hd', sl, b1, b2, a3, a4, upd a5 (L + 1) 1, upd a6 (L + 1) (nI t), upd a7 (L + 1) (nI c), upd a8 (L + 1) 0, upd a9 (L + 1) old, upd a10 (L + 1) (nI l), a11, b12, b13, b14, b15, a16, a17, a18, upd a19 t (nI (L + 1)), a20)) :
    wpX_undoEntry post (se, ce, le, fc, hd, sl, a1, a2, a3, a4, a5, a6, a7, a8, a9, a10, a11, a12, a13, a14, a15, a16, a17, a18, a19, a20) (nI n) (nI t) := by
  obtain ⟨H, E, h, hC⟩ := h
  have i1 : vp_in (nI n) 301 := pk_in n 301 (by omega)
  have en : (nI n).toNatClampNeg = n := nI_clamp (by omega)
  unfold wpX_undoEntry
  dsimp only
  rw [en]
  refine ⟨i1, nm_r h7 ?_⟩
  refine ae_bringIn hk (by omega) hfc h (ae_pg c hc) (by omega) (fun f se' hd' b1 b2 b12 b13 b14 b15 hf ef h' => ?_)
  dsimp only
  refine ⟨i1, i1, ?_⟩
  refine ae_append hle (by omega) ht hc h10 hl (by decide) ?_
  dsimp only
  refine ⟨i1, ?_⟩
  refine ae_apply rfl (by omega) hc (by omega) (fun c15 h15 => ?_)
  have e8 : upd a8 (L + 1) 0 n = old := by
    rw [pk_un (by omega), h8]
  obtain ⟨q1, q2⟩ := ae_pool_new (v := old) (by omega) h' hC hf hc ef h15
  dsimp only
  rw [e8, h8]
  exact hpost _ _ _ _ _ _ _ _ ⟨_, _, q1, q2⟩
end
theorem ae_undoLoop {post : Int32 → St2 → Prop} {k S lim x : Nat} {Who W : Nat → Nat} {Old New : Nat → Int32} {ce fc : Int32} {a3 a4 a11 a16 a17 a18 a20 : Nat → Int32} (hk : k ≤ 3) (hS : S ≤ 100) (hfc : fc = nI k) (hx : x < 3) (hlim : lim ≤ 300) :
    ∀ (m : Nat), m ≤ S → ∀ (fu L q j : Nat) (C : Nat → Int32) (se le hd sl : Int32) (a1 a2 a5 a6 a7 a8 a9 a10 a12 a13 a14 a15 a19 : Nat → Int32), m < fu → S ≤ L → L + m ≤ 290 → le = nI L → sl = nI q → m < q → q ≤ 100000 →
      ae_hold k L C se hd a1 a2 a12 a13 a14 a15 → ae_log S Who W Old New a5 a6 a7 a8 a9 a10 → (∃ l, l ≤ 300 ∧ a19 x = nI l) →
      (∀ (L' q' : Nat) (se' hd' : Int32) (b1 b2 b5 b6 b7 b8 b9 b10 b12 b13 b14 b15 b19 : Nat → Int32), L ≤ L' → L' ≤ L + m → q ≤ q' + m → q' ≤ q → ae_hold k L' (ae_undo Who W Old lim x m C) se' hd' b1 b2 b12 b13 b14 b15 → ae_log S Who W Old New b5 b6 b7 b8 b9 b10 → (∀ y, y ≠ x → b19 y = a19 y) → (∃ l, l ≤ 300 ∧ b19 x = nI l) →
        post (nI (j + ae_cnt Who lim x m)) (se', ce, nI L', fc, hd', nI q', b1, b2, a3, a4, b5, b6, b7, b8, b9, b10, a11, b12, b13, b14, b15, a16, a17, a18, b19, a20)) →
      wX_undoDownTo_10 post (nI x) (nI lim) fu (nI (ae_last Who x m)) (nI j) se ce le fc hd sl a1 a2 a3 a4 a5 a6 a7 a8 a9 a10 a11 a12 a13 a14 a15 a16 a17 a18 a19 a20 := by
  intro m
  induction m with
  | zero =>
    intro hm fu L q j C se le hd sl a1 a2 a5 a6 a7 a8 a9 a10 a12 a13 a14 a15 a19 hfu hSL hLm hle hsl hq hq2 h hlog hlx hpost
    obtain ⟨n, rfl⟩ : ∃ n, fu = n + 1 := ⟨fu - 1, by omega⟩
    subst hle hsl
    exact pk_le 0 lim (fun _ => hpost L q se hd a1 a2 a5 a6 a7 a8 a9 a10 a12 a13 a14 a15 a19 (Nat.le_refl _) (by omega) (by omega) (Nat.le_refl _) h hlog (fun _ _ => rfl) hlx) (fun z => absurd z (by omega))
  | succ m ih =>
    intro hm fu L q j C se le hd sl a1 a2 a5 a6 a7 a8 a9 a10 a12 a13 a14 a15 a19 hfu hSL hLm hle hsl hq hq2 h hlog hlx hpost
    unfold ae_last
    unfold ae_undo ae_cnt at hpost
    by_cases e : Who (m + 1) = x
    · rw [if_pos e]
      rw [if_pos e, if_pos e] at hpost
      obtain ⟨n, rfl⟩ : ∃ n, fu = n + 1 := ⟨fu - 1, by omega⟩
      by_cases g : lim < m + 1
      · rw [if_pos g, if_pos g] at hpost
        obtain ⟨l5, l6, l6b, l7, l7b, l8, l9, l10⟩ := hlog (m + 1) (by omega) hm
        rw [e, show m + 1 - 1 = m from rfl] at l10
        have i1 : vp_in (nI (m + 1)) 301 := pk_in (m + 1) 301 (by omega)
        have en : (nI (m + 1)).toNatClampNeg = m + 1 := nI_clamp (by omega)
        have hll := ae_last_le Who x m
        subst hsl
        refine pk_le (m + 1) lim (fun z => absurd z (by omega)) (fun _ => br_f (nI_nle (by omega) (by omega)) ⟨i1, br_t (by rw [en]; exact l5) ?_⟩)
        refine ae_undoEntry hk (by omega) hfc hle h (by omega) hx l7 l7b l8 l10 (by omega) (fun se' hd' b1 b2 b12 b13 b14 b15 h' => ?_)
        dsimp only
        refine nm_r (nI_1 j) (nm_r (ae_pred (by omega)) ⟨i1, nm_r (e' := nI (ae_last Who x m)) ?_ ?_⟩)
        · rw [en, pk_un (by omega), l10]
        · refine ih (by omega) n (L + 1) (q - 1) (j + 1) (upd C (W (m + 1)) (Old (m + 1))) _ _ _ _ _ _ _ _ _ _ _ _ _ _ _ _ _ (by omega) (by omega) (by omega) rfl rfl (by omega) (by omega) h' (ae_log_keep hlog hSL) ⟨L + 1, by omega, pk_us⟩ ?_
          intro L' q' se2 hd2 c1 c2 c5 c6 c7 c8 c9 c10 c12 c13 c14 c15 c19 g1 g2 g3 g4 g5 g6 g7 g8
          rw [show j + 1 + ae_cnt Who lim x m = j + (ae_cnt Who lim x m + 1) by omega]
          refine hpost L' q' se2 hd2 c1 c2 c5 c6 c7 c8 c9 c10 c12 c13 c14 c15 c19 (by omega) (by omega) (by omega) (by omega) g5 g6 (fun y hy => by rw [g7 y hy, pk_un hy]) g8
      · rw [if_neg g, if_neg g] at hpost
        subst hle hsl
        exact pk_le (m + 1) lim (fun _ => hpost L q se hd a1 a2 a5 a6 a7 a8 a9 a10 a12 a13 a14 a15 a19 (Nat.le_refl _) (by omega) (by omega) (Nat.le_refl _) h hlog (fun _ _ => rfl) hlx) (fun z => absurd z (by omega))
    · rw [if_neg e]
      rw [if_neg e, if_neg e] at hpost
      refine ih (by omega) fu L q j C se le hd sl a1 a2 a5 a6 a7 a8 a9 a10 a12 a13 a14 a15 a19 (by omega) hSL (by omega) hle hsl (by omega) hq2 h hlog hlx ?_
      intro L' q' se2 hd2 c1 c2 c5 c6 c7 c8 c9 c10 c12 c13 c14 c15 c19 g1 g2 g3 g4 g5 g6 g7 g8
      exact hpost L' q' se2 hd2 c1 c2 c5 c6 c7 c8 c9 c10 c12 c13 c14 c15 c19 g1 (by omega) (by omega) g4 g5 g6 g7 g8
end
section
/-- what the law reads at its end: the pool holds the cells C -/
def ae_fin (k : Nat) (C : Nat → Int32) (u : St2) : Prop := match u with
  | (se, ce, le, fc, hd, sl, a1, a2, a3, a4, a5, a6, a7, a8, a9, a10, a11, a12, a13, a14, a15, a16, a17, a18, a19, a20) => fc = nI k ∧ ∃ L, L ≤ 300 ∧ ae_hold k L C se hd a1 a2 a12 a13 a14 a15
theorem ae_pool_se {k L L' : Nat} {H : Nat → Nat → Int32} {E : Nat → Nat} {se hd : Int32} {a1 a2 a12 a13 a14 a15 : Nat → Int32} (h : ae_pool k L H E se hd a1 a2 a12 a13 a14 a15) (hL : L ≤ L') : ae_pool k L' H E (nI L') hd a1 a2 a12 a13 a14 a15 := by
  obtain ⟨hh, ⟨S, hS, es, hd4⟩, hE, hpg, hu, hout, hin⟩ := h
  refine ⟨hh, ⟨L', Nat.le_refl _, rfl, fun p hp => ?_⟩, fun p hp => Nat.le_trans (hE p hp) hL, hpg, hu, hout, hin⟩
  obtain ⟨d, hd, ed, hc⟩ := hd4 p hp
  exact ⟨d, by omega, ed, hc⟩
section
variable {se ce le fc hd sl : Int32} {a1 a2 a3 a4 a5 a6 a7 a8 a9 a10 a11 a12 a13 a14 a15 a16 a17 a18 a19 a20 : Nat → Int32}
theorem ae_fin_mk {k L : Nat} {C : Nat → Int32} (hfc : fc = nI k) (hL : L ≤ 300) (h : ae_hold k L C se hd a1 a2 a12 a13 a14 a15) : ae_fin k C (se, ce, le, fc, hd, sl, a1, a2, a3, a4, a5, a6, a7, a8, a9, a10, a11, a12, a13, a14, a15, a16, a17, a18, a19, a20) := by
  unfold ae_fin
  exact ⟨hfc, L, hL, h⟩
theorem ae_undoDownTo {post : Int32 → St2 → Prop} {k S lim x L q : Nat} {Who W : Nat → Nat} {Old New : Nat → Int32} {C : Nat → Int32} {lm : Int32} (hk : k ≤ 3) (hS : S ≤ 100) (hfc : fc = nI k) (hx : x < 3) (hlm : lm = nI lim) (hlim : lim ≤ 300)
    (hSL : S ≤ L) (hLS : L + S ≤ 290) (hle : le = nI L) (hsl : sl = nI q) (hq : S < q) (hq2 : q ≤ 100000) (h : ae_hold k L C se hd a1 a2 a12 a13 a14 a15) (hlog : ae_log S Who W Old New a5 a6 a7 a8 a9 a10) (h19 : a19 x = nI (ae_last Who x S))
    (hpost : ∀ (L' q' : Nat) (se' hd' : Int32) (b1 b2 b5 b6 b7 b8 b9 b10 b12 b13 b14 b15 b19 : Nat → Int32), L ≤ L' → L' ≤ L + S → q ≤ q' + S → q' ≤ q → ae_hold k L' (ae_undo Who W Old lim x S C) se' hd' b1 b2 b12 b13 b14 b15 → ae_log S Who W Old New b5 b6 b7 b8 b9 b10 → (∀ y, y ≠ x → b19 y = a19 y) → (∃ l, l ≤ 300 ∧ b19 x = nI l) →
        post (nI (ae_cnt Who lim x S)) (se', ce, nI L', fc, hd', nI q', b1, b2, a3, a4, b5, b6, b7, b8, b9, b10, a11, b12, b13, b14, b15, a16, a17, a18, b19, a20)) :
    wpX_undoDownTo post (se, ce, le, fc, hd, sl, a1, a2, a3, a4, a5, a6, a7, a8, a9, a10, a11, a12, a13, a14, a15, a16, a17, a18, a19, a20) (nI x) lm := by
  subst hlm
  unfold wpX_undoDownTo
  dsimp only
  have hll := ae_last_le Who x S
  refine ⟨pk_in x 3 hx, nm_r (e' := nI (ae_last Who x S)) (by rw [nI_clamp (by omega), h19]) ⟨S + 1, ?_⟩⟩
  refine ae_undoLoop hk hS hfc hx hlim S (Nat.le_refl _) (S + 1) L q 0 C se le hd sl a1 a2 a5 a6 a7 a8 a9 a10 a12 a13 a14 a15 a19 (by omega) hSL hLS hle hsl hq hq2 h hlog ⟨_, by omega, h19⟩ ?_
  intro L' q' se' hd' b1 b2 b5 b6 b7 b8 b9 b10 b12 b13 b14 b15 b19 g1 g2 g3 g4 g5 g6 g7 g8
  rw [Nat.zero_add]
  exact hpost L' q' se' hd' b1 b2 b5 b6 b7 b8 b9 b10 b12 b13 b14 b15 b19 g1 g2 g3 g4 g5 g6 g7 g8
theorem ae_back {post : Int32 → St2 → Prop} {k L t lim : Nat} {Who W : Nat → Nat} {Old New : Nat → Int32} {C : Nat → Int32} (hk : k ≤ 3) (hL : L ≤ 100) (hfc : fc = nI k) (hle : le = nI L) (h : ae_hold k L C se hd a1 a2 a12 a13 a14 a15) (hlog : ae_log L Who W Old New a5 a6 a7 a8 a9 a10)
    (ht : t < 3) (h16 : ¬ a16 t = 0) (h19 : a19 t = nI (ae_last Who t L)) (h20 : a20 t = nI lim) (hlim : lim ≤ 300) (hpost : ∀ u, ae_fin k (ae_undo Who W Old lim t L C) u → post (nI (ae_cnt Who lim t L)) u) :
    wpX_back post (se, ce, le, fc, hd, sl, a1, a2, a3, a4, a5, a6, a7, a8, a9, a10, a11, a12, a13, a14, a15, a16, a17, a18, a19, a20) (nI t) := by
  have i3 : vp_in (nI t) 3 := pk_in t 3 ht
  have et : (nI t).toNatClampNeg = t := nI_clamp (by omega)
  unfold wpX_back
  dsimp only
  refine ae_isT ht (br_f (by decide) ⟨i3, br_f (by rw [et]; exact h16) ?_⟩)
  refine ae_makeRoom hle (by omega) ?_
  dsimp only
  refine ⟨i3, ?_⟩
  refine ae_undoDownTo (q := 100000) hk hL hfc ht (by rw [et]; exact h20) hlim (Nat.le_refl _) (by omega) hle rfl (by omega) (by omega) h hlog h19 ?_
  intro L' q' se' hd' b1 b2 b5 b6 b7 b8 b9 b10 b12 b13 b14 b15 b19 g1 g2 g3 g4 g5 g6 g7 g8
  dsimp only
  exact hpost _ (ae_fin_mk hfc (by omega) g5)
theorem ae_abort {post : Int32 → St2 → Prop} {k L t : Nat} {Who W : Nat → Nat} {Old New : Nat → Int32} {C : Nat → Int32} (hk : k ≤ 3) (hL : L ≤ 100) (hfc : fc = nI k) (hle : le = nI L) (h : ae_hold k L C se hd a1 a2 a12 a13 a14 a15) (hlog : ae_log L Who W Old New a5 a6 a7 a8 a9 a10)
    (ht : t < 3) (h16 : ¬ a16 t = 0) (h19 : a19 t = nI (ae_last Who t L)) (hpost : ∀ u, ae_fin k (ae_undo Who W Old 0 t L C) u → post (ae_bits (a17 t) 16) u) :
    wpX_abort post (se, ce, le, fc, hd, sl, a1, a2, a3, a4, a5, a6, a7, a8, a9, a10, a11, a12, a13, a14, a15, a16, a17, a18, a19, a20) (nI t) := by
  have i3 : vp_in (nI t) 3 := pk_in t 3 ht
  have et : (nI t).toNatClampNeg = t := nI_clamp (by omega)
  unfold wpX_abort
  dsimp only
  refine ae_isT ht (br_f (by decide) ⟨i3, br_f (by rw [et]; exact h16) ?_⟩)
  refine ae_makeRoom hle (by omega) ?_
  dsimp only
  refine ae_undoDownTo (q := 100000) (lim := 0) hk hL hfc ht rfl (by omega) (Nat.le_refl _) (by omega) hle rfl (by omega) (by omega) h hlog h19 ?_
  intro L' q' se' hd' b1 b2 b5 b6 b7 b8 b9 b10 b12 b13 b14 b15 b19 g1 g2 g3 g4 g5 g6 g7 g8
  dsimp only
  obtain ⟨l, hl, el⟩ := g8
  refine ⟨i3, ?_⟩
  refine ae_append (c := 0) rfl (by omega) ht (by omega) (by rw [et]; exact el) hl (by decide) ?_
  dsimp only
  refine ⟨i3, nm_e ⟨i3, ae_bitsIn ?_⟩⟩
  rw [et]
  obtain ⟨H, E, g5, g5c⟩ := g5
  exact hpost _ (ae_fin_mk (L := L' + 1) hfc (by omega) ⟨H, E, ae_pool_L g5 (by omega), g5c⟩)
theorem ae_commit {post : Int32 → St2 → Prop} {k L t l : Nat} {C : Nat → Int32} (hk : k ≤ 3) (hL : L ≤ 100) (hfc : fc = nI k) (hle : le = nI L) (h : ae_hold k L C se hd a1 a2 a12 a13 a14 a15)
    (ht : t < 3) (h16 : ¬ a16 t = 0) (h19 : a19 t = nI l) (hl : l ≤ 300) (hpost : ∀ u, ae_fin k C u → post (ae_bits (a17 t) 16) u) :
    wpX_commit post (se, ce, le, fc, hd, sl, a1, a2, a3, a4, a5, a6, a7, a8, a9, a10, a11, a12, a13, a14, a15, a16, a17, a18, a19, a20) (nI t) := by
  have i3 : vp_in (nI t) 3 := pk_in t 3 ht
  have et : (nI t).toNatClampNeg = t := nI_clamp (by omega)
  unfold wpX_commit
  dsimp only
  refine ae_isT ht (br_f (by decide) ⟨i3, br_f (by rw [et]; exact h16) ?_⟩)
  refine ae_makeRoom hle (by omega) ?_
  dsimp only
  refine ⟨i3, ?_⟩
  refine ae_append (c := 0) hle (by omega) ht (by omega) (by rw [et]; exact h19) hl (by decide) ?_
  dsimp only
  refine ⟨i3, nm_e ⟨i3, ae_bitsIn ?_⟩⟩
  rw [et]
  obtain ⟨H, E, g5, g5c⟩ := h
  exact hpost _ (ae_fin_mk (L := L + 1) hfc (by omega) ⟨H, E, ae_pool_se g5 (by omega), g5c⟩)
end
end
section
/-- how many of the first n run -/
def ae_run (a : Nat → Int32) : Nat → Nat
  | 0 => 0
  | n + 1 => if a n = 0 then ae_run a n else ae_run a n + 1
theorem ae_run_le (a : Nat → Int32) (n : Nat) : ae_run a n ≤ n := by
  induction n with
  | zero => exact Nat.le_refl _
  | succ n ih =>
    unfold ae_run
    split <;> omega
/-- what taking back the transactions below x, one behind another, makes of the cells -/
def ae_all (Who W : Nat → Nat) (Old : Nat → Int32) (S : Nat) : Nat → (Nat → Int32) → (Nat → Int32)
  | 0, C => C
  | x + 1, C => ae_undo Who W Old 0 x S (ae_all Who W Old S x C)
/-- the history of the first L entries -/
def ae_hist (L : Nat) (H : Nat → Nat → Int32) (W : Nat → Nat) (New : Nat → Int32) : Prop :=
  ∀ n, 1 ≤ n → n ≤ L → H n (W n) = New n ∧ ∀ c, c < 16 → c ≠ W n → H n c = H (n - 1) c
theorem ae_hist_add {L c : Nat} {H : Nat → Nat → Int32} {W : Nat → Nat} {New C : Nat → Int32} {v : Int32} (h : ae_hist L H W New) (hC : ∀ c, c < 16 → H L c = C c) (hw : W (L + 1) = c) (hv : New (L + 1) = v) : ae_hist (L + 1) (ae_ext H (L + 1) (upd C c v)) W New := by
  intro n h1 h2
  by_cases e : n = L + 1
  · subst e
    rw [ae_ext_s, hw, hv, pk_us]
    refine ⟨rfl, fun c' hc' hne => ?_⟩
    rw [ae_ext_s, pk_un hne, show L + 1 - 1 = L from rfl, ae_ext_n (by omega), hC c' hc']
  · rw [ae_ext_n e]
    obtain ⟨g1, g2⟩ := h n h1 (by omega)
    refine ⟨g1, fun c' hc' hne => ?_⟩
    rw [ae_ext_n e, ae_ext_n (by omega)]
    exact g2 c' hc' hne
section
variable {se ce le fc hd sl : Int32} {a1 a2 a3 a4 a5 a6 a7 a8 a9 a10 a11 a12 a13 a14 a15 a16 a17 a18 a19 a20 : Nat → Int32}
theorem ae_running {post : Int32 → Prop} (h : post (nI (ae_run a16 3))) : wpX_runningCount post (se, ce, le, fc, hd, sl, a1, a2, a3, a4, a5, a6, a7, a8, a9, a10, a11, a12, a13, a14, a15, a16, a17, a18, a19, a20) := by
  refine pk_loop (σ := Unit) (fun n i _ => wX_runningCount_4 post se ce le fc hd sl a1 a2 a3 a4 a5 a6 a7 a8 a9 a10 a11 a12 a13 a14 a15 a16 a17 a18 a19 a20 n (nI (ae_run a16 i)) (nI i)) (fun _ _ => True) 3 0 () (by omega) trivial ?_ ?_
  · intro n s _
    exact pk_le 3 3 (fun _ => h) (fun z => absurd z (by omega))
  · intro n i s hi _ hw
    have ei : (nI i).toNatClampNeg = i := nI_clamp (by omega)
    have hw' : wX_runningCount_4 post se ce le fc hd sl a1 a2 a3 a4 a5 a6 a7 a8 a9 a10 a11 a12 a13 a14 a15 a16 a17 a18 a19 a20 n (nI (ae_run a16 (i + 1))) (nI (i + 1)) := hw () trivial
    unfold ae_run at hw'
    refine pk_le 3 i (fun z => absurd z (by omega)) (fun _ => ⟨pk_in i 3 hi, ?_⟩)
    rw [ei]
    by_cases e : a16 i = 0
    · rw [if_pos e] at hw'
      exact br_t e (nm_r (nI_1 i) hw')
    · rw [if_neg e] at hw'
      exact br_f e (nm_r (nI_1 _) (nm_r (nI_1 i) hw'))
theorem ae_lm30 {post : St2 → Prop} (hpost : ∀ b16 b19 : Nat → Int32, (∀ j, j < 3 → b16 j = 0) → (∀ j, j < 3 → b19 j = 0) → post (se, ce, le, fc, hd, sl, a1, a2, a3, a4, a5, a6, a7, a8, a9, a10, a11, a12, a13, a14, a15, b16, a17, a18, b19, a20)) : ∃ n, wX_loseMemory_30 post se ce le fc hd sl n 0 a1 a2 a3 a4 a5 a6 a7 a8 a9 a10 a11 a12 a13 a14 a15 a16 a17 a18 a19 a20 :=
  pk_loop (σ := (Nat → Int32) × (Nat → Int32)) (fun n i s => wX_loseMemory_30 post se ce le fc hd sl n (nI i) a1 a2 a3 a4 a5 a6 a7 a8 a9 a10 a11 a12 a13 a14 a15 (s.1) a17 a18 (s.2) a20) (fun i s => (∀ j, j < i → s.1 j = 0) ∧ (∀ j, j < i → s.2 j = 0)) 3 0 (a16, a19) (by omega) ⟨lt_0, lt_0⟩
    (fun n s h => pk_le 3 3 (fun _ => hpost _ _ h.1 h.2) (fun z => absurd z (by omega)))
    (fun n i s hi h hw => pk_le 3 i (fun z => absurd z (by omega)) (fun _ => ⟨pk_in i 3 hi, nm_e ⟨pk_in i 3 hi, nm_e (nm_r (nI_1 i) (hw (_, _) ⟨ae_fillc (nI_clamp (by omega)) h.1, ae_fillc (nI_clamp (by omega)) h.2⟩))⟩⟩))
theorem ae_lose {post : St2 → Prop} (hpost : ∀ b12 b16 b19 : Nat → Int32, (∀ j, j < 3 → b12 j = -1) → (∀ j, j < 3 → b16 j = 0) → (∀ j, j < 3 → b19 j = 0) → post (se, ce, se, fc, hd, sl, a1, a2, a3, a4, a5, a6, a7, a8, a9, a10, a11, b12, a13, a14, a15, b16, a17, a18, b19, a20)) : wpX_loseMemory post (se, ce, le, fc, hd, sl, a1, a2, a3, a4, a5, a6, a7, a8, a9, a10, a11, a12, a13, a14, a15, a16, a17, a18, a19, a20) :=
  pk_loop (fun n i s => wX_loseMemory_10 post se ce se fc hd sl n (nI i) a1 a2 a3 a4 a5 a6 a7 a8 a9 a10 a11 s a13 a14 a15 a16 a17 a18 a19 a20) (fun i s => ∀ j, j < i → s j = -1) 3 0 a12 (by omega) lt_0
    (fun n s h => pk_le 3 3 (fun _ => ae_lm30 (fun b16 b19 h16 h19 => hpost s b16 b19 h h16 h19)) (fun z => absurd z (by omega)))
    (fun n i s hi h hw => pk_le 3 i (fun z => absurd z (by omega)) (fun _ => ⟨pk_in i 3 hi, nm_e (nm_r (nI_1 i) (hw _ (ae_fillc (nI_clamp (by omega)) h)))⟩))
theorem ae_fl32 {post : St2 → Prop} {S : Nat} {Who W : Nat → Nat} {Old New : Nat → Int32} (hS : S ≤ 100) (hle : le = nI S) (hlog : ae_log S Who W Old New a5 a6 a7 a8 a9 a10) (h19 : ∀ x, x < 3 → a19 x = 0)
    (hpost : ∀ b19 : Nat → Int32, (∀ x, x < 3 → b19 x = nI (ae_last Who x S)) → post (se, ce, le, fc, hd, sl, a1, a2, a3, a4, a5, a6, a7, a8, a9, a10, a11, a12, a13, a14, a15, a16, a17, a18, b19, a20)) : ∃ n, wX_findLosers_32 post se ce le fc hd sl n (nI 1) a1 a2 a3 a4 a5 a6 a7 a8 a9 a10 a11 a12 a13 a14 a15 a16 a17 a18 a19 a20 := by
  subst hle
  refine pk_loop (fun n i s => wX_findLosers_32 post se ce (nI S) fc hd sl n (nI i) a1 a2 a3 a4 a5 a6 a7 a8 a9 a10 a11 a12 a13 a14 a15 a16 a17 a18 s a20) (fun i s => 1 ≤ i ∧ ∀ x, x < 3 → s x = nI (ae_last Who x (i - 1))) (S + 1) 1 a19 (by omega) ⟨Nat.le_refl _, h19⟩ ?_ ?_
  · intro n s h
    exact pk_lt S (S + 1) (fun _ => hpost s h.2) (fun z => absurd z (by omega))
  · intro n i s hi h hw
    have ei : (nI i).toNatClampNeg = i := nI_clamp (by omega)
    have i1 : vp_in (nI i) 301 := pk_in i 301 (by omega)
    obtain ⟨l5, l6, l6b, _⟩ := hlog i h.1 (by omega)
    refine pk_lt S i (fun z => absurd z (by omega)) (fun _ => ?_)
    rw [ei, l5, l6, ae_sh16 i (by omega), nI_clamp (show Who i < 2 ^ 31 by omega)]
    refine ⟨i1, i1, br_t (by decide) ⟨pk_in _ 3 l6b, nm_e (nm_r (nI_1 i) (hw _ ⟨by omega, fun x hx => ?_⟩))⟩⟩
    rw [show i + 1 - 1 = (i - 1) + 1 by omega]
    unfold ae_last
    rw [show i - 1 + 1 = i by omega]
    by_cases e : Who i = x
    · rw [if_pos e, e, pk_us]
    · rw [if_neg e, pk_un (fun z => e z.symm)]
      exact h.2 x hx
theorem ae_losers {post : St2 → Prop} {S : Nat} {Who W : Nat → Nat} {Old New : Nat → Int32} (hS : S ≤ 100) (hle : le = nI S) (hce : ce = 0) (h3 : ∀ x, x < 3 → a3 x = 0) (hlog : ae_log S Who W Old New a5 a6 a7 a8 a9 a10)
    (hpost : ∀ b19 : Nat → Int32, (∀ x, x < 3 → b19 x = nI (ae_last Who x S)) → post (se, ce, le, fc, hd, sl, a1, a2, a3, a4, a5, a6, a7, a8, a9, a10, a11, a12, a13, a14, a15, a16, a17, a18, b19, a20)) : wpX_findLosers post (se, ce, le, fc, hd, sl, a1, a2, a3, a4, a5, a6, a7, a8, a9, a10, a11, a12, a13, a14, a15, a16, a17, a18, a19, a20) := by
  subst hce
  refine pk_loop (fun n i s => wX_findLosers_2 post se 0 le fc hd sl n (nI i) a1 a2 a3 a4 a5 a6 a7 a8 a9 a10 a11 a12 a13 a14 a15 a16 a17 a18 s a20) (fun i s => ∀ j, j < i → s j = 0) 3 0 a19 (by omega) lt_0 ?_ ?_
  · intro n s h
    exact pk_le 3 3 (fun _ => nm_r (e' := nI 1) (by rfl) (ae_fl32 hS hle hlog h hpost)) (fun z => absurd z (by omega))
  · intro n i s hi h hw
    have ei : (nI i).toNatClampNeg = i := nI_clamp (by omega)
    refine pk_le 3 i (fun z => absurd z (by omega)) (fun _ => ?_)
    rw [ei, h3 i hi, show vp_nar .short 0 = 0 from ae_ns (n := 0) (by omega)]
    exact ⟨pk_in i 3 hi, pk_in i 3 hi, nm_e (nm_r (nI_1 i) (hw _ (ae_fillc rfl h)))⟩
end
theorem ae_redo {post : St2 → Prop} {k S : Nat} {Who W : Nat → Nat} {Old New : Nat → Int32} {H : Nat → Nat → Int32} {ce le fc : Int32} {a3 a4 a5 a6 a7 a8 a9 a10 a11 a16 a17 a18 a19 a20 : Nat → Int32} (hk : k ≤ 3) (hS : S ≤ 100) (hfc : fc = nI k) (hle : le = nI S)
    (hlog : ae_log S Who W Old New a5 a6 a7 a8 a9 a10) (hH : ae_hist S H W New) :
    ∀ (r fu i q : Nat) (E : Nat → Nat) (se hd sl : Int32) (a1 a2 a12 a13 a14 a15 : Nat → Int32), r < fu → i + r = S + 1 → 1 ≤ i → sl = nI q → r < q → q ≤ 100000 → ae_pool k S H E se hd a1 a2 a12 a13 a14 a15 →
      (∀ p, p < 4 → E p < i → ∀ j, j < 4 → H (E p) (4 * p + j) = H (i - 1) (4 * p + j)) →
      (∀ (q' : Nat) (se' hd' : Int32) (b1 b2 b12 b13 b14 b15 : Nat → Int32), q ≤ q' + r → q' ≤ q → ae_nrm k S H (H S) se' hd' b1 b2 b12 b13 b14 b15 → post (se', ce, le, fc, hd', nI q', b1, b2, a3, a4, a5, a6, a7, a8, a9, a10, a11, b12, b13, b14, b15, a16, a17, a18, a19, a20)) →
      wX_doAgain_48 post fu (nI i) se ce le fc hd sl a1 a2 a3 a4 a5 a6 a7 a8 a9 a10 a11 a12 a13 a14 a15 a16 a17 a18 a19 a20 := by
  subst hle
  intro r
  induction r with
  | zero =>
    intro fu i q E se hd sl a1 a2 a12 a13 a14 a15 hfu hir hi hsl hq hq2 h hE hpost
    obtain ⟨n, rfl⟩ : ∃ n, fu = n + 1 := ⟨fu - 1, by omega⟩
    have ei : i = S + 1 := by omega
    subst ei hsl
    refine pk_lt S (S + 1) (fun _ => hpost q se hd a1 a2 a12 a13 a14 a15 (by omega) (Nat.le_refl _) ⟨E, h, fun c hc => ?_⟩) (fun z => absurd z (by omega))
    have hp : c / 4 < 4 := by omega
    have hEp := h.2.2.1 (c / 4) hp
    have g := hE (c / 4) hp (by omega) (c % 4) (by omega)
    rw [show 4 * (c / 4) + c % 4 = c by omega, show S + 1 - 1 = S from rfl] at g
    exact g
  | succ r ih =>
    intro fu i q E se hd sl a1 a2 a12 a13 a14 a15 hfu hir hi hsl hq hq2 h hE hpost
    obtain ⟨n, rfl⟩ : ∃ n, fu = n + 1 := ⟨fu - 1, by omega⟩
    subst hsl
    have ei : (nI i).toNatClampNeg = i := nI_clamp (by omega)
    have i1 : vp_in (nI i) 301 := pk_in i 301 (by omega)
    obtain ⟨l5, l6, l6b, l7, l7b, l8, l9, l10⟩ := hlog i hi (by omega)
    obtain ⟨g1, g2⟩ := hH i hi (by omega)
    refine pk_lt S i (fun z => absurd z (by omega)) (fun _ => br_f (nI_nle (by omega) (by omega)) ⟨i1, br_t (by rw [ei, l5]; decide) ⟨i1, ?_⟩⟩)
    refine ae_bringIn hk (by omega) hfc h (p := W i / 4) (by rw [ei, l7, ae_pg _ l7b]) (by omega) (fun f se' hd' b1 b2 b12 b13 b14 b15 hf ef h' => ?_)
    have hp : W i / 4 < 4 := by omega
    have hEp := h.2.2.1 (W i / 4) hp
    have e14 := (h'.2.2.2.2.2.2 f (W i / 4) hf hp ef).1
    have ecell : ∀ p j, p < 4 → j < 4 → p ≠ W i / 4 → H (i - 1) (4 * p + j) = H i (4 * p + j) := by
      intro p j hp hj hne
      exact (g2 (4 * p + j) (by omega) (by omega)).symm
    dsimp only
    rw [ei, l7, l9]
    refine ⟨pk_in f 3 (by omega), ?_⟩
    refine pk_lt (E (W i / 4)) i (fun z => ⟨i1, i1, ?_⟩) (fun z => nm_r (nI_1 i) ?_) (by rw [nI_clamp (by omega), e14])
    · refine ae_applyEntry (by omega) l7b (by omega) (fun c15 h15 => ?_)
      dsimp only
      refine nm_r (ae_pred (by omega)) (nm_r (nI_1 i) ?_)
      refine ih n (i + 1) (q - 1) (fun y => if y = W i / 4 then i else E y) _ _ _ _ _ _ _ _ _ (by omega) (by omega) (by omega) rfl (by omega) (by omega) (ae_pool_set (L := S) (by omega) h' (Nat.le_refl _) hf hp ef (by omega) (by omega) (by omega) h15 (fun j hj => ?_)) (fun p hp hlt j hj => ?_) (fun q' se2 hd2 c1 c2 c12 c13 c14 c15 k1 k2 k3 => hpost q' se2 hd2 c1 c2 c12 c13 c14 c15 (by omega) (by omega) k3)
      · by_cases ej : j = W i % 4
        · rw [if_pos ej, show 4 * (W i / 4) + j = W i by omega, g1]
        · rw [if_neg ej, hE _ hp z j hj]
          exact g2 _ (by omega) (by omega)
      · show H (if p = W i / 4 then i else E p) (4 * p + j) = H i (4 * p + j)
        have hlt' : (if p = W i / 4 then i else E p) < i + 1 := hlt
        by_cases e : p = W i / 4
        · rw [if_pos e]
        · rw [if_neg e]
          rw [if_neg e] at hlt'
          by_cases e2 : E p = i
          · rw [e2]
          · rw [hE p hp (by omega) j hj]
            exact ecell p j hp hj e
    · refine ih n (i + 1) q E _ _ _ _ _ _ _ _ _ (by omega) (by omega) (by omega) rfl (by omega) (by omega) h' (fun p hp hlt j hj => ?_) (fun q' se2 hd2 c1 c2 c12 c13 c14 c15 k1 k2 k3 => hpost q' se2 hd2 c1 c2 c12 c13 c14 c15 (by omega) (by omega) k3)
      show H (E p) (4 * p + j) = H i (4 * p + j)
      by_cases e2 : E p = i
      · rw [e2]
      · have e3 : p ≠ W i / 4 := fun e => by
          rw [e] at hlt e2
          omega
        rw [hE p hp (by omega) j hj]
        exact ecell p j hp hj e3
section
variable {se ce le fc hd sl : Int32} {a1 a2 a3 a4 a5 a6 a7 a8 a9 a10 a11 a12 a13 a14 a15 a16 a17 a18 a19 a20 : Nat → Int32}
theorem ae_doAgain {post : St2 → Prop} {k S q : Nat} {Who W : Nat → Nat} {Old New : Nat → Int32} {H : Nat → Nat → Int32} {E : Nat → Nat} (hk : k ≤ 3) (hS : S ≤ 100) (hfc : fc = nI k) (hle : le = nI S) (hce : ce = 0) (h4 : ∀ p, p < 4 → a4 p = 0)
    (hlog : ae_log S Who W Old New a5 a6 a7 a8 a9 a10) (hH : ae_hist S H W New) (hsl : sl = nI q) (hq : S < q) (hq2 : q ≤ 100000) (h : ae_pool k S H E se hd a1 a2 a12 a13 a14 a15)
    (hpost : ∀ (q' : Nat) (se' hd' : Int32) (b1 b2 b12 b13 b14 b15 : Nat → Int32), q ≤ q' + S → q' ≤ q → ae_nrm k S H (H S) se' hd' b1 b2 b12 b13 b14 b15 → post (se', ce, le, fc, hd', nI q', b1, b2, a3, a4, a5, a6, a7, a8, a9, a10, a11, b12, b13, b14, b15, a16, a17, a18, a19, a20)) :
    wpX_doAgain post (se, ce, le, fc, hd, sl, a1, a2, a3, a4, a5, a6, a7, a8, a9, a10, a11, a12, a13, a14, a15, a16, a17, a18, a19, a20) := by
  subst hce
  unfold wpX_doAgain
  dsimp only
  refine nm_r (e' := nI 1) (by rfl) ?_
  refine pk_loop (σ := Unit) (fun n i _ => wX_doAgain_9 post se 0 le fc hd sl a1 a2 a3 a4 a5 a6 a7 a8 a9 a10 a11 a12 a13 a14 a15 a16 a17 a18 a19 a20 n (nI 1) (nI i)) (fun _ _ => True) 4 0 () (by omega) trivial ?_ ?_
  · intro n s _
    refine pk_le 4 4 (fun _ => ⟨S + 1, ?_⟩) (fun z => absurd z (by omega))
    refine ae_redo hk hS hfc hle hlog hH S (S + 1) 1 q E se hd sl a1 a2 a12 a13 a14 a15 (by omega) (by omega) (by omega) hsl hq hq2 h (fun p hp hlt j hj => ?_) hpost
    rw [show E p = 0 by omega]
  · intro n i s hi _ hw
    exact pk_le 4 i (fun z => absurd z (by omega)) (fun _ => ⟨pk_in i 4 hi, br_t (by rw [nI_clamp (by omega)]; exact h4 i hi) (nm_r (nI_1 i) (hw () trivial))⟩)
theorem ae_clear {post : St2 → Prop} {k L : Nat} {C : Nat → Int32} (hk : k ≤ 3) (hL : L ≤ 300) (hfc : fc = nI k) (h : ae_hold k L C se hd a1 a2 a12 a13 a14 a15) (hpost : ∀ u, ae_fin k C u → post u) : wpX_clearLog post (se, ce, le, fc, hd, sl, a1, a2, a3, a4, a5, a6, a7, a8, a9, a10, a11, a12, a13, a14, a15, a16, a17, a18, a19, a20) := by
  obtain ⟨H, E, h, hC⟩ := h
  unfold wpX_clearLog
  dsimp only
  refine ae_writeAll hk hL hfc h (fun se' b1 b2 b15 h' hfl => ?_)
  refine ae_forget (fun c2 c3 c4 c14 c15 g2 g14 g15 => ?_)
  exact hpost _ (ae_fin_mk (L := 0) hfc (by omega) ⟨_, _, ae_pool_forget hL hk h' hfl g2 g14, hC⟩)
theorem ae_rs {post : St2 → Prop} {n x k S L q : Nat} {Who W : Nat → Nat} {Old New C : Nat → Int32} (hk : k ≤ 3) (hS : S ≤ 100) (hfc : fc = nI k) (hx : x < 3) (hSL : S ≤ L) (hLS : L + S ≤ 280) (hle : le = nI L) (hsl : sl = nI q) (hq : 200 < q) (hq2 : q ≤ 100000)
    (h : ae_hold k L C se hd a1 a2 a12 a13 a14 a15) (hlog : ae_log S Who W Old New a5 a6 a7 a8 a9 a10) (h19 : a19 x = nI (ae_last Who x S))
    (hnext : ∀ (L' q' : Nat) (se' hd' : Int32) (b1 b2 b5 b6 b7 b8 b9 b10 b12 b13 b14 b15 b19 : Nat → Int32), L ≤ L' → L' ≤ L + S + 1 → q ≤ q' + S → q' ≤ q → ae_hold k L' (ae_undo Who W Old 0 x S C) se' hd' b1 b2 b12 b13 b14 b15 → ae_log S Who W Old New b5 b6 b7 b8 b9 b10 → (∀ y, y ≠ x → b19 y = a19 y) →
        wX_restart_15 post n (nI (x + 1)) se' ce (nI L') fc hd' (nI q') b1 b2 a3 a4 b5 b6 b7 b8 b9 b10 a11 b12 b13 b14 b15 a16 a17 a18 b19 a20) :
    wX_restart_15 post (n + 1) (nI x) se ce le fc hd sl a1 a2 a3 a4 a5 a6 a7 a8 a9 a10 a11 a12 a13 a14 a15 a16 a17 a18 a19 a20 := by
  have ex : (nI x).toNatClampNeg = x := nI_clamp (by omega)
  have i3 : vp_in (nI x) 3 := pk_in x 3 hx
  have hll := ae_last_le Who x S
  refine pk_le 3 x (fun z => absurd z (by omega)) (fun _ => ⟨i3, ?_⟩)
  rw [ex]
  by_cases e : ae_last Who x S = 0
  · refine br_t (by rw [h19, e]; rfl) (nm_r (nI_1 x) ?_)
    subst hle hsl
    refine hnext L q se hd a1 a2 a5 a6 a7 a8 a9 a10 a12 a13 a14 a15 a19 (Nat.le_refl _) (by omega) (by omega) (Nat.le_refl _) ?_ hlog (fun _ _ => rfl)
    rw [ae_undo_none S e]
    exact h
  · refine br_f (by rw [h19]; exact nI_ne0 (by omega) (by omega)) (pk_lt 0 q (fun _ => ?_) (fun z => absurd z (by omega)) rfl hsl)
    refine ae_undoDownTo (lim := 0) hk hS hfc hx rfl (by omega) hSL (by omega) hle hsl (by omega) hq2 h hlog h19 ?_
    intro L' q' se' hd' b1 b2 b5 b6 b7 b8 b9 b10 b12 b13 b14 b15 b19 g1 g2 g3 g4 g5 g6 g7 g8
    obtain ⟨l, hl, el⟩ := g8
    refine pk_lt 0 q' (fun _ => ⟨i3, ?_⟩) (fun z => absurd z (by omega))
    refine ae_append (c := 0) rfl (by omega) hx (by omega) el hl (by decide) ?_
    dsimp only
    refine ⟨i3, nm_e (nm_r (nI_1 x) ?_)⟩
    obtain ⟨H, E, g5, g5c⟩ := g5
    refine hnext (L' + 1) q' se' hd' b1 b2 _ _ _ _ _ _ b12 b13 b14 b15 _ (by omega) (by omega) (by omega) (by omega) ⟨H, E, ae_pool_L g5 (by omega), g5c⟩ (ae_log_keep g6 (by omega)) (fun y hy => by rw [pk_un hy, pk_un hy, g7 y hy])
theorem ae_restart {post : St2 → Prop} {k S : Nat} {Who W : Nat → Nat} {Old New : Nat → Int32} {H : Nat → Nat → Int32} {E : Nat → Nat} (hk : k ≤ 3) (hS : S ≤ 30) (hfc : fc = nI k) (hle : le = nI S) (hce : ce = 0) (h3 : ∀ x, x < 3 → a3 x = 0) (h4 : ∀ p, p < 4 → a4 p = 0)
    (hlog : ae_log S Who W Old New a5 a6 a7 a8 a9 a10) (hH : ae_hist S H W New) (h : ae_pool k S H E se hd a1 a2 a12 a13 a14 a15)
    (hpost : ∀ u, ae_fin k (ae_all Who W Old S 3 (H S)) u → post u) : wpX_restart post (se, ce, le, fc, hd, sl, a1, a2, a3, a4, a5, a6, a7, a8, a9, a10, a11, a12, a13, a14, a15, a16, a17, a18, a19, a20) 100000 := by
  unfold wpX_restart
  dsimp only
  refine ae_losers (by omega) hle hce h3 hlog (fun c19 h19 => ?_)
  refine ae_doAgain (q := 100000) hk (by omega) hfc hle hce h4 hlog hH rfl (by omega) (by omega) h (fun q0 se0 hd0 b1 b2 b12 b13 b14 b15 hq0 hq0' h0 => ?_)
  refine ⟨4, ?_⟩
  refine ae_rs (x := 0) hk (by omega) hfc (by omega) (Nat.le_refl _) (by omega) hle rfl (by omega) (by omega) ⟨H, h0⟩ hlog (h19 0 (by omega)) ?_
  intro L1 q1 se1 hd1 c1 c2 c5 c6 c7 c8 c9 c10 c12 c13 c14 c15 d19 k1 k2 k3 k4 k5 k6 k7
  refine ae_rs (x := 1) hk (by omega) hfc (by omega) (by omega) (by omega) rfl rfl (by omega) (by omega) k5 k6 (by rw [k7 1 (by omega)]; exact h19 1 (by omega)) ?_
  intro L2 q2 se2 hd2 d1 d2 d5 d6 d7 d8 d9 d10 d12 d13 d14 d15 e19 m1 m2 m3 m4 m5 m6 m7
  refine ae_rs (x := 2) hk (by omega) hfc (by omega) (by omega) (by omega) rfl rfl (by omega) (by omega) m5 m6 (by rw [m7 2 (by omega), k7 2 (by omega)]; exact h19 2 (by omega)) ?_
  intro L3 q3 se3 hd3 f1 f2 f5 f6 f7 f8 f9 f10 f12 f13 f14 f15 f19 n1 n2 n3 n4 n5 n6 n7
  refine pk_le 3 3 (fun _ => br_f (nI_nle (by omega) (by omega)) ?_) (fun z => absurd z (by omega))
  exact ae_clear hk (by omega) hfc n5 hpost
theorem ae_crash {post : Int32 → St2 → Prop} {k L : Nat} {Who W : Nat → Nat} {Old New C : Nat → Int32} {H : Nat → Nat → Int32} (hk : k ≤ 3) (hL : L ≤ 30) (hfc : fc = nI k) (hce : ce = 0) (h3 : ∀ x, x < 3 → a3 x = 0) (h4 : ∀ p, p < 4 → a4 p = 0)
    (hlog : ae_log L Who W Old New a5 a6 a7 a8 a9 a10) (hH : ae_hist L H W New) (h : ae_nrm k L H C se hd a1 a2 a12 a13 a14 a15)
    (hpost : ∀ S u, S ≤ L → ae_fin k (ae_all Who W Old S 3 (H S)) u → post (nI (ae_run a16 3)) u) : wpX_crash post (se, ce, le, fc, hd, sl, a1, a2, a3, a4, a5, a6, a7, a8, a9, a10, a11, a12, a13, a14, a15, a16, a17, a18, a19, a20) := by
  obtain ⟨E, h, hC⟩ := h
  unfold wpX_crash
  dsimp only
  refine ae_running ?_
  refine ae_lose (fun b12 b16 b19 g12 g16 g19 => ?_)
  obtain ⟨S, E', hS, es, h'⟩ := ae_pool_crash (by omega) h (fun f hf => g12 f (by omega))
  exact ae_restart hk (by omega) hfc es hce h3 h4 (ae_log_le hlog hS) (fun n h1 h2 => hH n h1 (by omega)) h' (fun u hu => hpost S u hS hu)
end
end
section
/-- the law's log: entry D is s's write to b (D = 0: there is none), the others are t's writes to a -/
def ae_who (D t s : Nat) : Nat → Nat := fun n => if n = D then s else t
def ae_w (D a b : Nat) : Nat → Nat := fun n => if n = D then b else a
def ae_old (D : Nat) (u : Int32) : Nat → Int32 := fun n => if n = D then 0 else if n = 1 then 0 else u
def ae_new (D : Nat) (u v : Int32) : Nat → Int32 := fun n => if n = D then v else if n = 1 then u else u + v
theorem ae_p_last {D L a b t s : Nat} (hD : (D = 0 ∧ L = 1 ∧ a = b) ∨ (D = 2 ∧ L = 2 ∧ a ≠ b)) (hts : t ≠ s) : ae_last (ae_who D t s) t L = 1 ∧ ae_last (ae_who D t s) t (L + 1) = L + 1 := by
  have hst : s ≠ t := fun z => hts z.symm
  rcases hD with ⟨rfl, rfl, _⟩ | ⟨rfl, rfl, _⟩ <;> simp [ae_last, ae_who, hst]
theorem ae_p_back {D L a b t s : Nat} {u : Int32} {C : Nat → Int32} (hD : (D = 0 ∧ L = 1 ∧ a = b) ∨ (D = 2 ∧ L = 2 ∧ a ≠ b)) (hts : t ≠ s) :
    ae_undo (ae_who D t s) (ae_w D a b) (ae_old D u) 1 t (L + 1) C a = u ∧ (a ≠ b → ae_undo (ae_who D t s) (ae_w D a b) (ae_old D u) 1 t (L + 1) C b = C b) ∧ ae_cnt (ae_who D t s) 1 t (L + 1) = 1 := by
  have hst : s ≠ t := fun z => hts z.symm
  rcases hD with ⟨rfl, rfl, rfl⟩ | ⟨rfl, rfl, hab⟩
  · simp [ae_undo, ae_cnt, ae_who, ae_w, ae_old, upd]
  · have hba : b ≠ a := fun z => hab z.symm
    simp [ae_undo, ae_cnt, ae_who, ae_w, ae_old, upd, hst, hab, hba]
theorem ae_p_abort {D L a b t s : Nat} {u : Int32} {C : Nat → Int32} (hD : (D = 0 ∧ L = 1 ∧ a = b) ∨ (D = 2 ∧ L = 2 ∧ a ≠ b)) (hts : t ≠ s) :
    ae_undo (ae_who D t s) (ae_w D a b) (ae_old D u) 0 t (L + 1) C a = 0 ∧ (a ≠ b → ae_undo (ae_who D t s) (ae_w D a b) (ae_old D u) 0 t (L + 1) C b = C b) := by
  have hst : s ≠ t := fun z => hts z.symm
  rcases hD with ⟨rfl, rfl, rfl⟩ | ⟨rfl, rfl, hab⟩
  · simp [ae_undo, ae_who, ae_w, ae_old, upd]
  · have hba : b ≠ a := fun z => hab z.symm
    simp [ae_undo, ae_who, ae_w, ae_old, upd, hst, hab, hba]
theorem ae_p_crash1 {a t s S : Nat} {u : Int32} {C : Nat → Int32} (ht : t < 3) (hS : S ≤ 2) (h0 : S = 0 → C a = 0) : ae_all (ae_who 0 t s) (ae_w 0 a a) (ae_old 0 u) S 3 C a = 0 := by
  have ct : t = 0 ∨ t = 1 ∨ t = 2 := by omega
  have cS : S = 0 ∨ S = 1 ∨ S = 2 := by omega
  rcases cS with rfl | rfl | rfl
  · exact h0 rfl
  · rcases ct with rfl | rfl | rfl <;> simp [ae_all, ae_undo, ae_who, ae_w, ae_old, upd]
  · rcases ct with rfl | rfl | rfl <;> simp [ae_all, ae_undo, ae_who, ae_w, ae_old, upd]
theorem ae_p_crash2 {a b t s S : Nat} {u : Int32} {C : Nat → Int32} (ht : t < 3) (hs : s < 3) (hts : t ≠ s) (hab : a ≠ b) (hS : S ≤ 3) (h0 : S = 0 → C a = 0 ∧ C b = 0) (h1 : S = 1 → C b = 0) :
    ae_all (ae_who 2 t s) (ae_w 2 a b) (ae_old 2 u) S 3 C a = 0 ∧ ae_all (ae_who 2 t s) (ae_w 2 a b) (ae_old 2 u) S 3 C b = 0 := by
  have hba : b ≠ a := fun z => hab z.symm
  have ct : (t = 0 ∧ s = 1) ∨ (t = 0 ∧ s = 2) ∨ (t = 1 ∧ s = 0) ∨ (t = 1 ∧ s = 2) ∨ (t = 2 ∧ s = 0) ∨ (t = 2 ∧ s = 1) := by omega
  have cS : S = 0 ∨ S = 1 ∨ S = 2 ∨ S = 3 := by omega
  rcases cS with rfl | rfl | rfl | rfl
  · exact h0 rfl
  · have h1' := h1 rfl
    rcases ct with ⟨rfl, rfl⟩ | ⟨rfl, rfl⟩ | ⟨rfl, rfl⟩ | ⟨rfl, rfl⟩ | ⟨rfl, rfl⟩ | ⟨rfl, rfl⟩ <;> simp [ae_all, ae_undo, ae_who, ae_w, ae_old, upd, hab, hba, h1']
  · rcases ct with ⟨rfl, rfl⟩ | ⟨rfl, rfl⟩ | ⟨rfl, rfl⟩ | ⟨rfl, rfl⟩ | ⟨rfl, rfl⟩ | ⟨rfl, rfl⟩ <;> simp [ae_all, ae_undo, ae_who, ae_w, ae_old, upd, hab, hba]
  · rcases ct with ⟨rfl, rfl⟩ | ⟨rfl, rfl⟩ | ⟨rfl, rfl⟩ | ⟨rfl, rfl⟩ | ⟨rfl, rfl⟩ | ⟨rfl, rfl⟩ <;> simp [ae_all, ae_undo, ae_who, ae_w, ae_old, upd, hab, hba]
theorem ae_p_run {a : Nat → Int32} {t s : Nat} (ht : t < 3) (hs : s < 3) (hts : t ≠ s) (h1 : a t = 1) (h2 : a s = 1) (h3 : ∀ x, x < 3 → x ≠ t → x ≠ s → a x = 0) : ae_run a 3 = 2 := by
  have ct : (t = 0 ∧ s = 1) ∨ (t = 0 ∧ s = 2) ∨ (t = 1 ∧ s = 0) ∨ (t = 1 ∧ s = 2) ∨ (t = 2 ∧ s = 0) ∨ (t = 2 ∧ s = 1) := by omega
  have n10 : ¬ (1 : Int32) = 0 := by decide
  have g0 := h3 0 (by omega)
  have g1 := h3 1 (by omega)
  have g2 := h3 2 (by omega)
  rcases ct with ⟨rfl, rfl⟩ | ⟨rfl, rfl⟩ | ⟨rfl, rfl⟩ | ⟨rfl, rfl⟩ | ⟨rfl, rfl⟩ | ⟨rfl, rfl⟩ <;> simp_all [ae_run]
theorem ae_nrm0 {k : Nat} {b12 : Nat → Int32} (hk1 : 1 ≤ k) (hb : ∀ f, f < k → b12 f = -1) : ae_nrm k 0 (fun _ _ => 0) (fun _ => 0) 0 0 (fun _ => 0) (fun _ => 0) b12 (fun _ => 0) (fun _ => 0) (fun _ => 0) := by
  refine ⟨fun _ => 0, ⟨⟨0, by omega, rfl⟩, ⟨0, Nat.le_refl _, rfl, fun p hp => ⟨0, Nat.le_refl _, rfl, fun i hi => rfl⟩⟩, fun p hp => Nat.le_refl _, fun f hf => Or.inl (hb f hf), fun f g p hf hg hp ef => ?_, fun p hp _ => rfl, fun f p hf hp ef => ?_⟩, fun c hc => rfl⟩
  · rw [hb f hf] at ef
    exact absurd ef (ae_m1 p hp)
  · rw [hb f hf] at ef
    exact absurd ef (ae_m1 p hp)
end
section
section
variable {se ce le fc hd sl : Int32} {a1 a2 a3 a4 a5 a6 a7 a8 a9 a10 a11 a12 a13 a14 a15 a16 a17 a18 a19 a20 : Nat → Int32}
theorem ae_260 {post : Int32 → St0 → Prop} {mc ms kc ks k a b : Nat} {x3 x4 z0 : Int32} {C : Nat → Int32} (hpost : post 1 ()) (hk : k ≤ 3) (ha : a < 16) (hb : b < 16) (h : ae_fin k C (se, ce, le, fc, hd, sl, a1, a2, a3, a4, a5, a6, a7, a8, a9, a10, a11, a12, a13, a14, a15, a16, a17, a18, a19, a20)) (h1 : C a = z0) (h2 : C b = if a = b then z0 else if x4 &&& 3 = 3 then 0 else x3) :
    wL_lawOf_260 post mc ms x3 x4 (nI a) (nI b) z0 kc ks se ce le fc hd sl a1 a2 a3 a4 a5 a6 a7 a8 a9 a10 a11 a12 a13 a14 a15 a16 a17 a18 a19 a20 := by
  unfold ae_fin at h
  obtain ⟨hfc, L, hL, H, h⟩ := h
  unfold wL_lawOf_260
  refine ae_read hk hL hfc h ha (fun se' hd' b1 b2 b12 b13 b14 b15 h' => br_t h1 ?_)
  refine ae_read hk hL hfc h' hb (fun se'' hd'' c1 c2 c12 c13 c14 c15 h'' => ?_)
  refine pk_eq a b (fun e => br_t (by rw [h2, if_pos e]) hpost) (fun e => ?_)
  rw [if_neg e] at h2
  exact br_c (fun g => br_t (by rw [h2, if_pos g]) hpost) (fun g => br_t (by rw [h2, if_neg g]) hpost)
theorem ae_212 {post : Int32 → St0 → Prop} {mc ms kc ks k a b : Nat} {u v x4 r : Int32} {C : Nat → Int32} (hpost : post 1 ()) (hk : k ≤ 3) (ha : a < 16) (hb : b < 16) (h : ae_fin k C (se, ce, le, fc, hd, sl, a1, a2, a3, a4, a5, a6, a7, a8, a9, a10, a11, a12, a13, a14, a15, a16, a17, a18, a19, a20)) (hr : r = if x4 &&& 3 = 3 then 2 else 1)
    (h1 : C a = if x4 &&& 3 = 0 then u else if x4 &&& 3 = 2 then u + v else 0) (h2 : a ≠ b → C b = if x4 &&& 3 = 3 then 0 else v) :
    wL_lawOf_212 post mc ms u v x4 (nI a) (nI b) r kc ks se ce le fc hd sl a1 a2 a3 a4 a5 a6 a7 a8 a9 a10 a11 a12 a13 a14 a15 a16 a17 a18 a19 a20 := by
  have main : ∀ z, C a = z → wL_lawOf_260 post mc ms v x4 (nI a) (nI b) z kc ks se ce le fc hd sl a1 a2 a3 a4 a5 a6 a7 a8 a9 a10 a11 a12 a13 a14 a15 a16 a17 a18 a19 a20 := by
    intro z hz
    refine ae_260 hpost hk ha hb h hz ?_
    by_cases e : a = b
    · rw [if_pos e, ← e, hz]
    · rw [if_neg e, h2 e]
  have m229 : ∀ y, r = y → wL_lawOf_229 post mc ms u v x4 (nI a) (nI b) y r kc ks se ce le fc hd sl a1 a2 a3 a4 a5 a6 a7 a8 a9 a10 a11 a12 a13 a14 a15 a16 a17 a18 a19 a20 := by
    intro y hy
    unfold wL_lawOf_229
    exact br_t hy (br_c (fun e => main u (by rw [h1, if_pos e])) (fun e => br_c (fun e2 => main (u + v) (by rw [h1, if_neg e, if_pos e2])) (fun e2 => main 0 (by rw [h1, if_neg e, if_neg e2]))))
  unfold wL_lawOf_212
  exact br_c (fun e => m229 2 (by rw [hr, if_pos e])) (fun e => m229 1 (by rw [hr, if_neg e]))
theorem ae_108 {post : Int32 → St0 → Prop} {mc ms kc ks k D L t s a b : Nat} {x4 u v z0 z1 : Int32} {H : Nat → Nat → Int32} {C : Nat → Int32} (hpost : post 1 ()) (hz : z1 = z0) (hk : k ≤ 3) (hfc : fc = nI k) (hle : le = nI L) (hce : ce = 0) (h3 : ∀ x, x < 3 → a3 x = 0) (h4 : ∀ p, p < 4 → a4 p = 0)
    (ht : t < 3) (hs : s < 3) (hts : t ≠ s) (ha : a < 16) (hb : b < 16) (hD : (D = 0 ∧ L = 1 ∧ a = b) ∨ (D = 2 ∧ L = 2 ∧ a ≠ b)) (h : ae_nrm k L H C se hd a1 a2 a12 a13 a14 a15)
    (hlog : ae_log L (ae_who D t s) (ae_w D a b) (ae_old D u) (ae_new D u v) a5 a6 a7 a8 a9 a10) (hH : ae_hist L H (ae_w D a b) (ae_new D u v)) (hHL : ∀ c, c < 16 → H L c = C c) (hH0 : H 0 a = 0 ∧ H 0 b = 0) (hH1 : a ≠ b → H 1 b = 0) (hCa : C a = u) (hCb : a ≠ b → C b = v)
    (h16t : a16 t = 1) (h16s : a16 s = 1) (h16o : ∀ x, x < 3 → x ≠ t → x ≠ s → a16 x = 0) (h17t : a17 t = (1 : Int32) <<< (nI a &&& 31)) (h17s : (a17 s >>> (nI a &&& 31)) &&& 1 = 0) (h18 : a18 t < 20) (h19 : a19 t = nI 1) :
    wL_lawOf_108 post mc ms u v x4 (nI t) (nI a) (nI b) z0 z1 kc ks se ce le fc hd sl a1 a2 a3 a4 a5 a6 a7 a8 a9 a10 a11 a12 a13 a14 a15 a16 a17 a18 a19 a20 := by
  have n10 : ¬ (1 : Int32) = 0 := by decide
  have h16n : ¬ a16 t = 0 := by
    rw [h16t]
    exact n10
  have hL2 : L ≤ 2 := by omega
  obtain ⟨el, el'⟩ := ae_p_last hD hts
  have eW : ae_w D a b (L + 1) = a := by
    rcases hD with ⟨rfl, rfl, _⟩ | ⟨rfl, rfl, _⟩ <;> simp [ae_w]
  have eWho : ae_who D t s (L + 1) = t := by
    rcases hD with ⟨rfl, rfl, _⟩ | ⟨rfl, rfl, _⟩ <;> simp [ae_who]
  have eO : ae_old D u (L + 1) = C a := by
    rw [hCa]
    rcases hD with ⟨rfl, rfl, _⟩ | ⟨rfl, rfl, _⟩ <;> simp [ae_old]
  have eN : ae_new D u v (L + 1) = u + v := by
    rcases hD with ⟨rfl, rfl, _⟩ | ⟨rfl, rfl, _⟩ <;> simp [ae_new]
  have ebits : a17 t ||| ((1 : Int32) <<< (nI a &&& 31)) = (1 : Int32) <<< (nI a &&& 31) := by
    rw [h17t]
    exact Int32.or_self
  have hfree : ∀ x, x < 3 → x ≠ t → a16 x = 0 ∨ (a17 x >>> (nI a &&& 31)) &&& 1 = 0 := by
    intro x hx hxt
    by_cases e : x = s
    · rw [e]
      exact Or.inr h17s
    · exact Or.inl (h16o x hx hxt e)
  unfold wL_lawOf_108
  refine br_t hz ?_
  refine ae_mark ht h16n h19 (by omega) ?_
  refine br_t rfl ?_
  refine ae_add (l := ae_last (ae_who D t s) t L) (v := u + v) hk (by omega) hfc hle h ht ha (by rw [el]; exact h19) (by rw [el]; omega) h16n h18 hfree (by rw [hCa]) ?_
  intro se1 hd1 b1 b2 b12 b13 b14 b15 h1
  rw [ebits, ae_bits1 a ha]
  refine br_t rfl ?_
  refine ae_read hk (by omega) hfc h1 ha (fun se2 hd2 c1 c2 c12 c13 c14 c15 h2 => ?_)
  refine br_t pk_us ?_
  have hlog2 := ae_log_add hlog eWho ht eW ha eO eN
  have hH2 := ae_hist_add hH hHL eW eN
  have hCb2 : a ≠ b → upd C a (u + v) b = v := fun e => by rw [pk_un (fun z => e z.symm), hCb e]
  refine br_c (fun w => ?_) (fun w0 => br_c (fun w => ?_) (fun w1 => br_c (fun w => ?_) (fun w2 => ?_)))
  · obtain ⟨p1, p2, p3⟩ := ae_p_back (C := upd C a (u + v)) (u := u) hD hts
    refine ae_back (lim := 1) hk (by omega) hfc rfl ⟨_, h2⟩ hlog2 ht h16n (by rw [pk_us, el']) (by rw [pk_us]) (by omega) (fun y hy => ?_)
    rw [p3]
    obtain ⟨x1, x2, x3, x4', x5, x6, y1, y2, y3, y4, y5, y6, y7, y8, y9, y10, y11, y12, y13, y14, y15, y16, y17, y18, y19, y20⟩ := y
    refine ae_212 hpost hk ha hb hy ?_ ?_ (fun e => ?_)
    · rw [w]
      rfl
    · rw [p1, if_pos w]
    · rw [p2 e, hCb2 e, w]
      rfl
  · obtain ⟨p1, p2⟩ := ae_p_abort (C := upd C a (u + v)) (u := u) hD hts
    refine ae_abort hk (by omega) hfc rfl ⟨_, h2⟩ hlog2 ht h16n (by rw [pk_us, el']) (fun y hy => ?_)
    rw [pk_us, ae_bits1 a ha]
    obtain ⟨x1, x2, x3, x4', x5, x6, y1, y2, y3, y4, y5, y6, y7, y8, y9, y10, y11, y12, y13, y14, y15, y16, y17, y18, y19, y20⟩ := y
    refine ae_212 hpost hk ha hb hy ?_ ?_ (fun e => ?_)
    · rw [w]
      rfl
    · rw [p1, w]
      rfl
    · rw [p2 e, hCb2 e, w]
      rfl
  · refine ae_commit hk (by omega) hfc rfl ⟨_, h2⟩ ht h16n pk_us (by omega) (fun y hy => ?_)
    rw [pk_us, ae_bits1 a ha]
    obtain ⟨x1, x2, x3, x4', x5, x6, y1, y2, y3, y4, y5, y6, y7, y8, y9, y10, y11, y12, y13, y14, y15, y16, y17, y18, y19, y20⟩ := y
    refine ae_212 hpost hk ha hb hy ?_ ?_ (fun e => ?_)
    · rw [w]
      rfl
    · rw [pk_us, w]
      rfl
    · rw [hCb2 e, w]
      rfl
  · have w3 : x4 &&& 3 = 3 := by
      obtain ⟨j, hj, ej⟩ := pk_andE x4 (m := 3) 2 (by decide)
      rw [ej] at w0 w1 w2 ⊢
      have cj : j = 0 ∨ j = 1 ∨ j = 2 ∨ j = 3 := by omega
      rcases cj with rfl | rfl | rfl | rfl
      · exact absurd rfl w0
      · exact absurd rfl w1
      · exact absurd rfl w2
      · rfl
    refine ae_crash hk (by omega) hfc hce h3 h4 hlog2 hH2 h2 (fun S y hS hy => ?_)
    rw [ae_p_run ht hs hts h16t h16s h16o]
    have fin : ae_all (ae_who D t s) (ae_w D a b) (ae_old D u) S 3 (ae_ext H (L + 1) (upd C a (u + v)) S) a = 0 ∧ (a ≠ b → ae_all (ae_who D t s) (ae_w D a b) (ae_old D u) S 3 (ae_ext H (L + 1) (upd C a (u + v)) S) b = 0) := by
      rcases hD with ⟨rfl, rfl, rfl⟩ | ⟨rfl, rfl, hab⟩
      · refine ⟨ae_p_crash1 ht hS (fun e => ?_), fun e => absurd rfl e⟩
        rw [e, ae_ext_n (by omega)]
        exact hH0.1
      · have g := ae_p_crash2 (u := u) (C := ae_ext H (2 + 1) (upd C a (u + v)) S) ht hs hts hab hS (fun e => ?_) (fun e => ?_)
        · exact ⟨g.1, fun _ => g.2⟩
        · rw [e, ae_ext_n (by omega), ae_ext_n (by omega)]
          exact hH0
        · rw [e, ae_ext_n (by omega)]
          exact hH1 hab
    obtain ⟨x1, x2, x3, x4', x5, x6, y1, y2, y3, y4, y5, y6, y7, y8, y9, y10, y11, y12, y13, y14, y15, y16, y17, y18, y19, y20⟩ := y
    refine ae_212 hpost hk ha hb hy ?_ ?_ (fun e => ?_)
    · rw [w3]
      rfl
    · rw [fin.1, w3]
      rfl
    · rw [fin.2 e, w3]
      rfl
end
end
section
theorem ae_init {post : St2 → Prop} {p0 : Int32} (hpost : ∀ (k : Nat) (b12 : Nat → Int32), 1 ≤ k → k ≤ 3 → (∀ j, j < 3 → b12 j = -1) → post (0, 0, 0, nI k, 0, 0, (fun _ => 0), (fun _ => 0), (fun _ => 0), (fun _ => 0), (fun _ => 0), (fun _ => 0), (fun _ => 0), (fun _ => 0), (fun _ => 0), (fun _ => 0), (fun _ => 0), b12, (fun _ => 0), (fun _ => 0), (fun _ => 0), (fun _ => 0), (fun _ => 0), (fun _ => 0), (fun _ => 0), (fun _ => 0))) :
    wpX_init post 20 2170 (0, 0, 0, 0, 0, 0) p0 := by
  have lp : ∀ (k : Nat) (x : Int32), 1 ≤ k → k ≤ 3 → x = nI k → ∃ n, wX_init_185 post 20 2170 20 2170 0 0 0 x 0 0 n 0 (fun _ => 0) (fun _ => 0) (fun _ => 0) (fun _ => 0) (fun _ => 0) (fun _ => 0) (fun _ => 0) (fun _ => 0) (fun _ => 0) (fun _ => 0) (fun _ => 0) (fun _ => 0) (fun _ => 0) (fun _ => 0) (fun _ => 0) (fun _ => 0) (fun _ => 0) (fun _ => 0) (fun _ => 0) (fun _ => 0) := by
    intro k x h1 h3 ex
    subst ex
    exact pk_loop (fun n i s => wX_init_185 post 20 2170 20 2170 0 0 0 (nI k) 0 0 n (nI i) (fun _ => 0) (fun _ => 0) (fun _ => 0) (fun _ => 0) (fun _ => 0) (fun _ => 0) (fun _ => 0) (fun _ => 0) (fun _ => 0) (fun _ => 0) (fun _ => 0) s (fun _ => 0) (fun _ => 0) (fun _ => 0) (fun _ => 0) (fun _ => 0) (fun _ => 0) (fun _ => 0) (fun _ => 0)) (fun i s => ∀ j, j < i → s j = -1) 3 0 (fun _ => 0) (by omega) lt_0
      (fun n s h => pk_le 3 3 (fun _ => hpost k s h1 h3 h) (fun z => absurd z (by omega)))
      (fun n i s hi h hw => pk_le 3 i (fun z => absurd z (by omega)) (fun _ => ⟨pk_in i 3 hi, nm_e (nm_r (nI_1 i) (hw _ (ae_fillc (nI_clamp (by omega)) h)))⟩))
  unfold wpX_init
  dsimp only
  refine ⟨by omega, by omega, by omega, by omega, by omega, by omega, by omega, by omega, by omega, by omega, by omega, by omega, by omega, by omega, by omega, by omega, by omega, by omega, by omega, by omega, by omega, by omega, by omega, by omega, by omega, by omega, by omega, by omega, by omega, by omega, by omega, by omega, by omega, by omega, by omega, by omega, by omega, by omega, by omega, by omega, ?_⟩
  refine br_c (fun z => br_c (fun z2 => ?_) (fun z2 => lp 3 3 (by omega) (by omega) rfl)) (fun z => lp 1 1 (by omega) (by omega) rfl)
  have hn : ¬ p0 < 0 := fun g => by
    have g1 : (1 : Int32).toInt ≤ p0.toInt := Int32.le_iff_toInt_le.mp z
    have g2 : p0.toInt < (0 : Int32).toInt := Int32.lt_iff_toInt_lt.mp g
    have e1 : (1 : Int32).toInt = 1 := by decide
    have e0 : (0 : Int32).toInt = 0 := by decide
    omega
  obtain ⟨k, hk, ek⟩ := nI_of2 (M := 3) (n := 3) (by decide) hn z2
  refine lp k p0 ?_ hk ek
  rcases Nat.eq_zero_or_pos k with e | e
  · subst e
    rw [ek] at z
    exact absurd z (by decide)
  · exact e
theorem ae_lawOf {post : Int32 → St0 → Prop} (hpost : post 1 ()) (p0 p1 u v x4 : Int32) : wpL_lawOf post 650 10384 () p0 p1 u v x4 := by
  obtain ⟨w, hw, ew⟩ := pk_andE p0 (m := 255) 8 (by decide)
  obtain ⟨j, hj, ej⟩ := pk_andE (p0 >>> ((8 : Int32) &&& 31)) (m := 1) 1 (by decide)
  obtain ⟨a, ha, ea⟩ := pk_andE p1 (m := 15) 4 (by decide)
  obtain ⟨b, hb, eb⟩ := pk_andE (p1 >>> ((4 : Int32) &&& 31)) (m := 15) 4 (by decide)
  obtain ⟨t, et⟩ : ∃ t, t = w % 3 := ⟨_, rfl⟩
  obtain ⟨s, es⟩ : ∃ s, s = (t + 1 + j) % 3 := ⟨_, rfl⟩
  have ha : a < 16 := ha
  have hb : b < 16 := hb
  have hw : w < 256 := hw
  have hj : j < 2 := hj
  have ht : t < 3 := by omega
  have hs : s < 3 := by omega
  have hts : t ≠ s := by omega
  have hst : s ≠ t := fun z => hts z.symm
  have Et : (p0 &&& 255) - (p0 &&& 255) / 3 * 3 = nI t := by
    rw [ew, et]
    exact pk_rem (d := 3) (by omega) (by omega) (by omega)
  have n10 : ¬ (1 : Int32) = 0 := by decide
  unfold wpL_lawOf
  refine ⟨by omega, by omega, 20, 2170, by omega, by omega, ?_⟩
  refine ae_init (fun k b12 hk1 hk hb12 => ?_)
  refine ⟨by decide, nm_r Et ⟨by decide, nm_r (e' := nI s) ?_ (nm_r ea (nm_r eb ?_))⟩⟩
  · rw [ej, nI_1, nI_add, es]
    exact pk_rem (d := 3) (by omega) (by omega) (by omega)
  refine ae_begin ht rfl ?_
  refine ae_begin hs (by rw [pk_un hst]) ?_
  refine br_t rfl ?_
  have z16t : upd (upd (fun _ => (0 : Int32)) t 1) s 1 t = 1 := by rw [pk_un hts, pk_us]
  have z16s : upd (upd (fun _ => (0 : Int32)) t 1) s 1 s = 1 := pk_us
  have z16o : ∀ x, x < 3 → x ≠ t → x ≠ s → upd (upd (fun _ => (0 : Int32)) t 1) s 1 x = 0 := fun x _ h1 h2 => by rw [pk_un h2, pk_un h1]
  have zz : ∀ x, upd (upd (fun _ => (0 : Int32)) t 0) s 0 x = 0 := by
    intro x
    by_cases e : x = s
    · rw [e, pk_us]
    · rw [pk_un e]
      by_cases e2 : x = t
      · rw [e2, pk_us]
      · rw [pk_un e2]
  have n16t : ¬ upd (upd (fun _ => (0 : Int32)) t 1) s 1 t = 0 := by
    rw [z16t]
    exact n10
  have n16s : ¬ upd (upd (fun _ => (0 : Int32)) t 1) s 1 s = 0 := by
    rw [z16s]
    exact n10
  refine ae_write (L := 0) (l := 0) hk (by omega) rfl rfl (ae_nrm0 hk1 (fun f hf => hb12 f (by omega))) ht ha (zz t) (by omega) n16t (by rw [zz t]; decide) (fun x _ _ => Or.inr (by rw [zz x]; exact ae_bit0 a ha)) ?_
  intro se1 hd1 b1 b2 c12 b13 b14 b15 h1
  rw [zz t, Int32.zero_or, ae_bits1 a ha]
  refine br_t rfl ?_
  have lg0 : ∀ D, ae_log 0 (ae_who D t s) (ae_w D a b) (ae_old D u) (ae_new D u v) (fun _ => 0) (fun _ => 0) (fun _ => 0) (fun _ => 0) (fun _ => 0) (fun _ => 0) := fun D n g1 g2 => absurd g1 (by omega)
  have hi0 : ∀ D, ae_hist 0 (fun _ _ => 0) (ae_w D a b) (ae_new D u v) := fun D n g1 g2 => absurd g1 (by omega)
  have lg1 : ∀ D, D = 0 ∨ D = 2 → ae_log 1 (ae_who D t s) (ae_w D a b) (ae_old D u) (ae_new D u v) (upd (fun _ => 0) 1 0) (upd (fun _ => 0) 1 (nI t)) (upd (fun _ => 0) 1 (nI a)) (upd (fun _ => 0) 1 0) (upd (fun _ => 0) 1 u) (upd (fun _ => 0) 1 (nI 0)) := by
    intro D hD
    refine ae_log_add (L := 0) (lg0 D) ?_ ht ?_ ha ?_ ?_
    · rcases hD with rfl | rfl <;> rfl
    · rcases hD with rfl | rfl <;> rfl
    · rcases hD with rfl | rfl <;> rfl
    · rcases hD with rfl | rfl <;> rfl
  have hi1 : ∀ D, D = 0 ∨ D = 2 → ae_hist 1 (ae_ext (fun _ _ => 0) 1 (upd (fun _ => 0) a u)) (ae_w D a b) (ae_new D u v) := by
    intro D hD
    refine ae_hist_add (L := 0) (hi0 D) (fun _ _ => rfl) ?_ ?_
    · rcases hD with rfl | rfl <;> rfl
    · rcases hD with rfl | rfl <;> rfl
  by_cases hab : a = b
  · subst hab
    refine ae_addHeld (x := t) hs ha n16s (by rw [pk_un hst, zz s]; decide) ht hts n16t ?_ ?_
    · rw [pk_us]
      exact fun z => (ae_bit a ha a ha).mp z rfl
    · refine br_t rfl ?_
      refine ae_108 (D := 0) (L := 1) (s := s) hpost rfl hk rfl rfl rfl (fun _ _ => rfl) (fun _ _ => rfl) ht hs hts ha ha (Or.inl ⟨rfl, rfl, rfl⟩) h1 (lg1 0 (Or.inl rfl)) (hi1 0 (Or.inl rfl)) (fun c hc => ae_ext_s) ⟨rfl, rfl⟩ (fun e => absurd rfl e) pk_us (fun e => absurd rfl e) z16t z16s z16o pk_us ?_ ?_ pk_us
      · rw [pk_un hst, zz s]
        exact ae_bit0 a ha
      · rw [pk_us]
        decide
  · have hba : b ≠ a := fun z => hab z.symm
    have el2 : ae_last (ae_who 2 t s) s 1 = 0 := by simp [ae_last, ae_who, hts]
    refine ae_add (L := 1) (l := ae_last (ae_who 2 t s) s 1) (v := v) hk (by omega) rfl rfl h1 hs hb (by rw [pk_un hst, el2]; exact zz s) (by rw [el2]; omega) n16s (by rw [pk_un hst, zz s]; decide) (fun x _ hxs => ?_) ?_ ?_
    · by_cases e : x = t
      · rw [e, pk_us]
        exact Or.inr ((ae_bit a ha b hb).mpr hab)
      · rw [pk_un e, zz x]
        exact Or.inr (ae_bit0 b hb)
    · rw [pk_un hba]
      exact Int32.zero_add v
    · intro se2 hd2 d1 d2 d12 d13 d14 d15 h2
      rw [pk_un hst, zz s, Int32.zero_or, ae_bits1 b hb]
      refine br_f (fun z => hab ((nI_eq (by omega) (by omega)).mp z)) ?_
      refine ae_108 (D := 2) (L := 2) (s := s) hpost rfl hk rfl rfl rfl (fun _ _ => rfl) (fun _ _ => rfl) ht hs hts ha hb (Or.inr ⟨rfl, rfl, hab⟩) h2 ?_ ?_ (fun c hc => ae_ext_s) ⟨rfl, rfl⟩ (fun _ => ?_) ?_ (fun _ => pk_us) z16t z16s z16o ?_ ?_ ?_ ?_
      · refine ae_log_add (L := 1) (t := s) (c := b) (v := v) (lg1 2 (Or.inr rfl)) rfl hs rfl hb ?_ rfl
        rw [pk_un hba]
        rfl
      · exact ae_hist_add (L := 1) (hi1 2 (Or.inr rfl)) (fun c hc => ae_ext_s) rfl rfl
      · show upd (fun _ => 0) a u b = 0
        exact pk_un hba
      · rw [pk_un hab, pk_us]
      · rw [pk_un hts, pk_us]
      · rw [pk_us]
        exact (ae_bit b hb a ha).mpr hba
      · rw [pk_un hts, pk_us]
        decide
      · rw [pk_un hts, pk_us]
theorem ae_cell {post : Int32 → Prop} {L : Nat} {xs : Nat → Int32} (hL : L ≤ 5) (i : Nat) (hi : i < 5) (x : Int32) (hx : x = nI i) (h : ∀ r, post r) : wpL_cellAt post L xs () x := by
  subst hx
  exact pk_le L i (fun _ => h 0) (fun z => ⟨pk_in i L z, h _⟩)
theorem i_vc (xs : Nat → Int32) (L : Nat) (hL : L ≤ 5) : wpL_law (fun r => r = 1) L xs :=
  ae_cell hL 0 (by omega) 0 rfl (fun r1 => ae_cell hL 1 (by omega) 1 rfl (fun r2 => ae_cell hL 2 (by omega) 2 rfl (fun r3 => ae_cell hL 3 (by omega) 3 rfl (fun r4 => ae_cell hL 4 (by omega) 4 rfl (fun r5 => ⟨650, 10384, by omega, by omega, ae_lawOf rfl r1 r2 r3 r4 r5⟩)))))
end
