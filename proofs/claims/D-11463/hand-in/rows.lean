section
/-! indices -/
theorem zq_i9 (a b : Nat) : (nI a * 9) + nI b = nI (a * 9 + b) := by
  rw [show (9 : Int32) = nI 9 from rfl, pk_mul, nI_add]
theorem zq_i7 (a b : Nat) : (nI a * 7) + nI b = nI (a * 7 + b) := by
  rw [show (7 : Int32) = nI 7 from rfl, pk_mul, nI_add]
theorem zq_i98 (a : Nat) : (nI a * 9) + 8 = nI (a * 9 + 8) := zq_i9 a 8
theorem zq_i63 (a : Nat) : 63 + nI a = nI (63 + a) := by
  rw [show (63 : Int32) = nI 63 from rfl, nI_add]
/-! a square of 9 by 9 naturals in an array -/
def zq_mt (a : Nat → Int32) (G : Nat → Nat → Nat) : Prop := ∀ x y, x < 9 → y < 9 → a (x * 9 + y) = nI (G x y)
def zq_set (G : Nat → Nat → Nat) (x y v : Nat) : Nat → Nat → Nat := fun p q => if p = x ∧ q = y then v else G p q
theorem zq_set_s (G : Nat → Nat → Nat) (x y v : Nat) : zq_set G x y v x y = v := if_pos ⟨rfl, rfl⟩
theorem zq_set_n (G : Nat → Nat → Nat) {x y v p q : Nat} (h : ¬ (p = x ∧ q = y)) : zq_set G x y v p q = G p q := if_neg h
theorem zq_mt_set {a : Nat → Int32} {G : Nat → Nat → Nat} {x y v : Nat} {w : Int32} (h : zq_mt a G) (hy : y < 9) (hw : w = nI v) : zq_mt (upd a (x * 9 + y) w) (zq_set G x y v) := by
  intro p q hp hq
  by_cases e : p = x ∧ q = y
  · obtain ⟨rfl, rfl⟩ := e
    rw [pk_us, zq_set_s, hw]
  · rw [zq_set_n G e, pk_un (by omega), h p q hp hq]
theorem zq_mt_congr {a : Nat → Int32} {G G' : Nat → Nat → Nat} (h : zq_mt a G) (e : ∀ x y, x < 9 → y < 9 → G x y = G' x y) : zq_mt a G' := by
  intro x y hx hy
  rw [h x y hx hy, e x y hx hy]
/-! pulls -/
def zq_pull (b s X : Int32) (v : Nat) : Prop := (b + s * X ≤ 0 → v = 0) ∧ (¬ b + s * X ≤ 0 → b + s * X = nI v)
section
variable {wf fl : Int32} {a1 a2 a3 a4 a5 a6 a7 a8 a9 a10 a11 a12 : Nat → Int32}
theorem zq_sp {post : Int32 → Prop} {X : Int32} {k v : Nat} (hk : k < 7) (h : zq_pull (a2 k) (a3 k) X v) (hp : post (nI v)) : wpX_sourcePull post (wf, fl, a1, a2, a3, a4, a5, a6, a7, a8, a9, a10, a11, a12) (nI k) X := by
  refine ⟨pk_in k 7 hk, pk_in k 7 hk, ?_⟩
  rw [nI_clamp (by omega)]
  refine nm_e (br_c (fun z => ?_) (fun z => ?_))
  · rw [h.1 z] at hp
    exact hp
  · rw [h.2 z]
    exact hp
theorem zq_tp {post : Int32 → Prop} {X : Int32} {k v : Nat} (hk : k < 7) (h : zq_pull (a4 k) (a5 k) X v) (hp : post (nI v)) : wpX_sinkPull post (wf, fl, a1, a2, a3, a4, a5, a6, a7, a8, a9, a10, a11, a12) (nI k) X := by
  refine ⟨pk_in k 7 hk, pk_in k 7 hk, ?_⟩
  rw [nI_clamp (by omega)]
  refine nm_e (br_c (fun z => ?_) (fun z => ?_))
  · rw [h.1 z] at hp
    exact hp
  · rw [h.2 z]
    exact hp
end
/-! load -/
def zq_G0 (cp : Nat → Nat → Nat) (sp tp : Nat → Nat) : Nat → Nat → Nat := fun x y => if x < 7 then (if y < 7 then cp x y else if y = 8 then tp x else 0) else if x = 7 ∧ y < 7 then sp y else 0
def zq_ld (G : Nat → Nat → Nat) (u i : Nat) : Nat → Nat → Nat := fun x y => if x < u ∨ (x = u ∧ y < i) ∨ (x = 7 ∧ y < u) then G x y else 0
theorem zq_ld1 {cp : Nat → Nat → Nat} {sp tp : Nat → Nat} {u i : Nat} (hu : u < 7) (hi : i < 7) (x y : Nat) (hx : x < 9) (hy : y < 9) : zq_set (zq_ld (zq_G0 cp sp tp) u i) u i (cp u i) x y = zq_ld (zq_G0 cp sp tp) u (i + 1) x y := by
  by_cases e : x = u ∧ y = i
  · obtain ⟨rfl, rfl⟩ := e
    rw [zq_set_s]
    unfold zq_ld zq_G0
    rw [if_pos (by omega), if_pos hu, if_pos hi]
  · rw [zq_set_n _ e]
    exact ite_congr (propext (by omega)) (fun _ => rfl) (fun _ => rfl)
theorem zq_ld2 {cp : Nat → Nat → Nat} {sp tp : Nat → Nat} {u : Nat} (hu : u < 7) (x y : Nat) (hx : x < 9) (hy : y < 9) : zq_set (zq_set (zq_ld (zq_G0 cp sp tp) u 7) 7 u (sp u)) u 8 (tp u) x y = zq_ld (zq_G0 cp sp tp) (u + 1) 0 x y := by
  by_cases e : x = u ∧ y = 8
  · obtain ⟨rfl, rfl⟩ := e
    rw [zq_set_s]
    unfold zq_ld zq_G0
    rw [if_pos (by omega), if_pos hu, if_neg (by omega), if_pos rfl]
  · rw [zq_set_n _ e]
    by_cases e2 : x = 7 ∧ y = u
    · obtain ⟨rfl, rfl⟩ := e2
      rw [zq_set_s]
      unfold zq_ld zq_G0
      rw [if_pos (by omega), if_neg (by omega), if_pos (by omega)]
    · rw [zq_set_n _ e2]
      by_cases e3 : x = u ∧ y = 7
      · obtain ⟨rfl, rfl⟩ := e3
        unfold zq_ld zq_G0
        rw [if_neg (by omega), if_pos (by omega), if_pos hu, if_neg (by omega), if_neg (by omega)]
      · exact ite_congr (propext (by omega)) (fun _ => rfl) (fun _ => rfl)
theorem zq_ld3 {cp : Nat → Nat → Nat} {sp tp : Nat → Nat} (x y : Nat) (hx : x < 9) (hy : y < 9) : zq_ld (zq_G0 cp sp tp) 7 0 x y = zq_G0 cp sp tp x y := by
  unfold zq_ld
  by_cases e : x < 7 ∨ (x = 7 ∧ y < 0) ∨ (x = 7 ∧ y < 7)
  · rw [if_pos e]
  · rw [if_neg e]
    unfold zq_G0
    rw [if_neg (by omega), if_neg (by omega)]
section
variable {wf fl : Int32} {a1 a2 a3 a4 a5 a6 a7 a8 a9 a10 a11 a12 : Nat → Int32}
variable {X : Int32} {cp : Nat → Nat → Nat} {sp tp : Nat → Nat}
theorem zq_load31 {post : St2 → Prop} {J : Int32 → (Nat → Int32) → (Nat → Int32) → (Nat → Int32) → (Nat → Int32) → (Nat → Int32) → (Nat → Int32) → (Nat → Int32) → (Nat → Int32) → (Nat → Int32) → (Nat → Int32) → (Nat → Int32) → (Nat → Int32) → Prop} {u : Nat} (hu : u < 7)
    (hc : ∀ x y, x < 7 → y < 7 → a1 (x * 7 + y) = nI (cp x y)) (hs : ∀ k, k < 7 → zq_pull (a2 k) (a3 k) X (sp k)) (ht : ∀ k, k < 7 → zq_pull (a4 k) (a5 k) X (tp k))
    (h0 : zq_mt a6 (zq_ld (zq_G0 cp sp tp) u 0))
    (H : ∀ s, zq_mt s (zq_ld (zq_G0 cp sp tp) (u + 1) 0) → J (nI (u + 1)) a1 a2 a3 a4 a5 s a7 a8 a9 a10 a11 a12) :
    ∃ n, wX_load_31 post J X (nI u) wf fl n 0 a1 a2 a3 a4 a5 a6 a7 a8 a9 a10 a11 a12 := by
  refine pk_loop (fun n i s => wX_load_31 post J X (nI u) wf fl n (nI i) a1 a2 a3 a4 a5 s a7 a8 a9 a10 a11 a12) (fun i s => zq_mt s (zq_ld (zq_G0 cp sp tp) u i)) 7 0 a6 (by omega) h0 ?_ ?_
  · intro n s h
    refine pk_le 7 7 (fun _ => ?_) (fun z => absurd z (by omega))
    refine zq_sp hu (hs u hu) ?_
    rw [zq_i63, nI_clamp (by omega)]
    refine ⟨pk_in (63 + u) 81 (by omega), nm_e ?_⟩
    refine zq_tp hu (ht u hu) ?_
    rw [zq_i98, nI_clamp (by omega)]
    refine ⟨pk_in (u * 9 + 8) 81 (by omega), nm_e (nm_r (nI_1 u) ?_)⟩
    refine H _ (zq_mt_congr ?_ (zq_ld2 hu))
    exact zq_mt_set (zq_mt_set (x := 7) h (by omega) rfl) (by omega) rfl
  · intro n i s hi h hw
    refine pk_le 7 i (fun z => absurd z (by omega)) (fun _ => ?_)
    rw [zq_i7, zq_i9, nI_clamp (show u * 7 + i < 2 ^ 31 by omega), nI_clamp (show u * 9 + i < 2 ^ 31 by omega)]
    refine ⟨pk_in (u * 7 + i) 49 (by omega), pk_in (u * 9 + i) 81 (by omega), nm_e (nm_r (nI_1 i) ?_)⟩
    exact hw _ (zq_mt_congr (zq_mt_set h (by omega) (hc u i hu hi)) (zq_ld1 hu hi))
theorem zq_load23 {post : St2 → Prop}
    (hc : ∀ x y, x < 7 → y < 7 → a1 (x * 7 + y) = nI (cp x y)) (hs : ∀ k, k < 7 → zq_pull (a2 k) (a3 k) X (sp k)) (ht : ∀ k, k < 7 → zq_pull (a4 k) (a5 k) X (tp k))
    (h0 : zq_mt a6 (zq_ld (zq_G0 cp sp tp) 0 0))
    (H : ∀ s, zq_mt s (zq_G0 cp sp tp) → post (wf, fl, a1, a2, a3, a4, a5, s, a7, a8, a9, a10, a11, a12)) :
    ∃ n, wX_load_23 post X wf fl n 0 a1 a2 a3 a4 a5 a6 a7 a8 a9 a10 a11 a12 := by
  refine pk_loop (fun n i s => wX_load_23 post X wf fl n (nI i) a1 a2 a3 a4 a5 s a7 a8 a9 a10 a11 a12) (fun i s => zq_mt s (zq_ld (zq_G0 cp sp tp) i 0)) 7 0 a6 (by omega) h0 ?_ ?_
  · intro n s h
    exact pk_le 7 7 (fun _ => H s (zq_mt_congr h zq_ld3)) (fun z => absurd z (by omega))
  · intro n i s hi h hw
    exact pk_le 7 i (fun z => absurd z (by omega)) (fun _ => zq_load31 hi hc hs ht h hw)
theorem zq_load {post : St2 → Prop}
    (hc : ∀ x y, x < 7 → y < 7 → a1 (x * 7 + y) = nI (cp x y)) (hs : ∀ k, k < 7 → zq_pull (a2 k) (a3 k) X (sp k)) (ht : ∀ k, k < 7 → zq_pull (a4 k) (a5 k) X (tp k))
    (H : ∀ s, zq_mt s (zq_G0 cp sp tp) → post (wf, fl, a1, a2, a3, a4, a5, s, a7, a8, a9, a10, a11, a12)) :
    wpX_load post (wf, fl, a1, a2, a3, a4, a5, a6, a7, a8, a9, a10, a11, a12) X := by
  refine pk_loop (fun n i s => wX_load_2 post X wf fl n (nI i) a1 a2 a3 a4 a5 s a7 a8 a9 a10 a11 a12) (fun i s => ∀ j, j < i → s j = 0) 81 0 a6 (by omega) (fun j hj => absurd hj (by omega)) ?_ ?_
  · intro n s h
    refine pk_le 81 81 (fun _ => zq_load23 hc hs ht ?_ H) (fun z => absurd z (by omega))
    intro x y hx hy
    rw [h (x * 9 + y) (by omega)]
    unfold zq_ld
    rw [if_neg (by omega)]
    rfl
  · intro n i s hi h hw
    refine pk_le 81 i (fun z => absurd z (by omega)) (fun _ => ?_)
    rw [nI_clamp (show i < 2 ^ 31 by omega)]
    refine ⟨pk_in i 81 hi, nm_e (nm_r (nI_1 i) (hw _ ?_))⟩
    intro j hj
    by_cases e : j = i
    · rw [e, pk_us]
    · rw [pk_un e]
      exact h j (by omega)
end
end
section
/-! the search: pure rows -/
def zq_edge (u v x y : Nat) : Prop := (x = 7 ∧ (y = u ∨ y = v)) ∨ (x = u ∧ (y = 7 ∨ y = v ∨ y = 8)) ∨ (x = v ∧ (y = 7 ∨ y = u ∨ y = 8)) ∨ (x = 8 ∧ (y = u ∨ y = v))
def zq_cm (G : Nat → Nat → Nat) (u v : Nat) (c : Nat → Int32) : Prop :=
  c 7 = nI 7 ∧ (∀ k, k < 7 → k ≠ u → k ≠ v → c k = -1) ∧
  (c u = -1 ∨ (c u = nI 7 ∧ 0 < G 7 u) ∨ (c u = nI v ∧ 0 < G v u ∧ c v = nI 7 ∧ 0 < G 7 v)) ∧
  (c v = -1 ∨ (c v = nI 7 ∧ 0 < G 7 v) ∨ (c v = nI u ∧ 0 < G u v ∧ c u = nI 7 ∧ 0 < G 7 u)) ∧
  (c 8 = -1 ∨ (c 8 = nI u ∧ 0 < G u 8 ∧ c u ≠ -1) ∨ (c 8 = nI v ∧ 0 < G v 8 ∧ c v ≠ -1))
def zq_wy (G : Nat → Nat → Nat) (u v : Nat) (c : Nat → Int32) : Prop :=
  c 8 = nI u ∧ 0 < G u 8 ∧ ((c u = nI 7 ∧ 0 < G 7 u) ∨ (c u = nI v ∧ 0 < G v u ∧ c v = nI 7 ∧ 0 < G 7 v))
def zq_cut (G : Nat → Nat → Nat) : Prop := ∃ V : Nat → Prop, V 7 ∧ ¬ V 8 ∧ ∀ m k, m < 9 → k < 9 → V m → 0 < G m k → V k
theorem zq_nm1 : ∀ m, m < 9 → nI m ≠ -1 := by decide +kernel
theorem zq_cm_sym {G : Nat → Nat → Nat} {u v : Nat} {c : Nat → Int32} (h : zq_cm G u v c) : zq_cm G v u c :=
  ⟨h.1, fun k hk k1 k2 => h.2.1 k hk k2 k1, h.2.2.2.1, h.2.2.1, Or.elim h.2.2.2.2 Or.inl (fun t => Or.elim t (fun s => Or.inr (Or.inr s)) (fun s => Or.inr (Or.inl s)))⟩
theorem zq_cm_val {G : Nat → Nat → Nat} {u v : Nat} {c : Nat → Int32} (hu : u < 7) (hv : v < 7) (h : zq_cm G u v c) (k : Nat) (hk : k < 9) : c k = -1 ∨ ∃ m, m < 9 ∧ c k = nI m := by
  obtain ⟨h7, ho, hU, hV, hT⟩ := h
  by_cases e7 : k = 7
  · rw [e7]; exact Or.inr ⟨7, by omega, h7⟩
  by_cases e8 : k = 8
  · rw [e8]
    rcases hT with h | h | h
    · exact Or.inl h
    · exact Or.inr ⟨u, by omega, h.1⟩
    · exact Or.inr ⟨v, by omega, h.1⟩
  by_cases eu : k = u
  · rw [eu]
    rcases hU with h | h | h
    · exact Or.inl h
    · exact Or.inr ⟨7, by omega, h.1⟩
    · exact Or.inr ⟨v, by omega, h.1⟩
  by_cases ev : k = v
  · rw [ev]
    rcases hV with h | h | h
    · exact Or.inl h
    · exact Or.inr ⟨7, by omega, h.1⟩
    · exact Or.inr ⟨u, by omega, h.1⟩
  exact Or.inl (ho k (by omega) eu ev)
theorem zq_cmU {G : Nat → Nat → Nat} {u v : Nat} {c : Nat → Int32} (hu : u < 7) (hv : v < 7) (huv : u ≠ v) (h : zq_cm G u v c) (hcu : c u = -1) {m : Nat} (hm : m < 9) (hcm : c m ≠ -1) (hm2 : m = 7 ∨ m = v) (hg : 0 < G m u) : zq_cm G u v (upd c u (nI m)) := by
  obtain ⟨h7, ho, hU, hV, hT⟩ := h
  have cu : upd c u (nI m) u = nI m := pk_us
  have cv : upd c u (nI m) v = c v := pk_un (by omega)
  have c8 : upd c u (nI m) 8 = c 8 := pk_un (by omega)
  have c7 : upd c u (nI m) 7 = c 7 := pk_un (by omega)
  have nm : nI m ≠ -1 := zq_nm1 m hm
  have hV' : c v = -1 ∨ (c v = nI 7 ∧ 0 < G 7 v) := by
    rcases hV with h | h | h
    · exact Or.inl h
    · exact Or.inr h
    · exact absurd h.2.2.1 (by rw [hcu]; decide)
  refine ⟨by rw [c7]; exact h7, fun k hk k1 k2 => by rw [pk_un k1]; exact ho k hk k1 k2, ?_, ?_, ?_⟩
  · rw [cu, cv]
    rcases hm2 with e | e
    · rw [e] at hg ⊢
      exact Or.inr (Or.inl ⟨rfl, hg⟩)
    · rw [e] at hg hcm ⊢
      rcases hV' with h | h
      · exact absurd h hcm
      · exact Or.inr (Or.inr ⟨rfl, hg, h.1, h.2⟩)
  · rw [cu, cv]
    rcases hV' with h | h
    · exact Or.inl h
    · exact Or.inr (Or.inl h)
  · rw [cu, cv, c8]
    rcases hT with h | h | h
    · exact Or.inl h
    · exact Or.inr (Or.inl ⟨h.1, h.2.1, nm⟩)
    · exact Or.inr (Or.inr h)
theorem zq_cm8 {G : Nat → Nat → Nat} {u v : Nat} {c : Nat → Int32} (hu : u < 7) (hv : v < 7) (h : zq_cm G u v c) {m : Nat} (hcm : c m ≠ -1) (hm2 : m = u ∨ m = v) (hg : 0 < G m 8) : zq_cm G u v (upd c 8 (nI m)) := by
  obtain ⟨h7, ho, hU, hV, hT⟩ := h
  have cu : upd c 8 (nI m) u = c u := pk_un (by omega)
  have cv : upd c 8 (nI m) v = c v := pk_un (by omega)
  have c8 : upd c 8 (nI m) 8 = nI m := pk_us
  have c7 : upd c 8 (nI m) 7 = c 7 := pk_un (by omega)
  refine ⟨by rw [c7]; exact h7, fun k hk k1 k2 => by rw [pk_un (by omega)]; exact ho k hk k1 k2, ?_, ?_, ?_⟩
  · rw [cu, cv]; exact hU
  · rw [cu, cv]; exact hV
  · rw [cu, cv, c8]
    rcases hm2 with e | e
    · rw [e] at hg hcm ⊢
      exact Or.inr (Or.inl ⟨rfl, hg, hcm⟩)
    · rw [e] at hg hcm ⊢
      exact Or.inr (Or.inr ⟨rfl, hg, hcm⟩)
theorem zq_cm_step {G : Nat → Nat → Nat} {u v : Nat} {c : Nat → Int32} (hu : u < 7) (hv : v < 7) (huv : u ≠ v) (hsp : ∀ x y, x < 9 → y < 9 → 0 < G x y → zq_edge u v x y) (h : zq_cm G u v c) {m k : Nat} (hm : m < 9) (hm8 : m ≠ 8) (hcm : c m ≠ -1) (hk : k < 9) (hck : c k = -1) (hg : 0 < G m k) : zq_cm G u v (upd c k (nI m)) ∧ (k = u ∨ k = v ∨ k = 8) := by
  have e := hsp m k hm hk hg
  have hk7 : k ≠ 7 := by
    intro e7
    rw [e7, h.1] at hck
    exact absurd hck (by decide)
  unfold zq_edge at e
  have hk3 : k = u ∨ k = v ∨ k = 8 := by omega
  refine ⟨?_, hk3⟩
  rcases hk3 with e1 | e1 | e1
  · rw [e1] at hg hck ⊢
    exact zq_cmU hu hv huv h hck hm hcm (by omega) hg
  · rw [e1] at hg hck ⊢
    exact zq_cm_sym (zq_cmU hv hu (Ne.symm huv) (zq_cm_sym h) hck hm hcm (by omega) hg)
  · rw [e1] at hg hck ⊢
    exact zq_cm8 hu hv h hcm (by omega) hg
def zq_vi (x : Int32) : Nat := if x = -1 then 0 else 1
def zq_ct (c : Nat → Int32) (u v : Nat) : Nat := zq_vi (c u) + zq_vi (c v) + zq_vi (c 8)
theorem zq_vi_le (x : Int32) : zq_vi x ≤ 1 := by
  unfold zq_vi
  split <;> omega
theorem zq_vi0 {x : Int32} (h : x = -1) : zq_vi x = 0 := if_pos h
theorem zq_vi1 {x : Int32} (h : x ≠ -1) : zq_vi x = 1 := if_neg h
theorem zq_ct_le (c : Nat → Int32) (u v : Nat) : zq_ct c u v ≤ 3 := by
  have h1 := zq_vi_le (c u)
  have h2 := zq_vi_le (c v)
  have h3 := zq_vi_le (c 8)
  unfold zq_ct
  omega
theorem zq_ct_upd {u v k m : Nat} {c : Nat → Int32} (hu : u < 7) (hv : v < 7) (huv : u ≠ v) (hm : m < 9) (hck : c k = -1) (hk : k = u ∨ k = v ∨ k = 8) : zq_ct (upd c k (nI m)) u v = zq_ct c u v + 1 := by
  have nm := zq_vi1 (zq_nm1 m hm)
  have n0 := zq_vi0 hck
  unfold zq_ct
  rcases hk with e | e | e
  · subst e
    rw [pk_us, pk_un (Ne.symm huv), pk_un (show 8 ≠ k by omega)]
    omega
  · subst e
    rw [pk_us, pk_un huv, pk_un (show 8 ≠ k by omega)]
    omega
  · subst e
    rw [pk_us, pk_un (show u ≠ 8 by omega), pk_un (show v ≠ 8 by omega)]
    omega
theorem zq_mono {c : Nat → Int32} {k m j : Nat} (hm : m < 9) (h : c j ≠ -1) : upd c k (nI m) j ≠ -1 := by
  by_cases e : j = k
  · rw [e, pk_us]
    exact zq_nm1 m hm
  · rw [pk_un e]
    exact h
/-- between two turns of the outer loop -/
def zq_in0 (G : Nat → Nat → Nat) (u v i e : Nat) (q c : Nat → Int32) : Prop :=
  zq_cm G u v c ∧ e = 1 + zq_ct c u v ∧ i ≤ e ∧ (∀ j, j < e → ∃ p, p < 9 ∧ q j = nI p ∧ c p ≠ -1) ∧
  (∀ p, p < 9 → c p ≠ -1 → (∃ j, i ≤ j ∧ j < e ∧ q j = nI p) ∨ (∀ k, k < 9 → 0 < G p k → c k ≠ -1))
/-- within a turn: place m is looked at, its ways below k are done -/
def zq_in1 (G : Nat → Nat → Nat) (u v i m e : Nat) (q c : Nat → Int32) (k : Nat) : Prop :=
  zq_cm G u v c ∧ e = 1 + zq_ct c u v ∧ i < e ∧ q i = nI m ∧ c m ≠ -1 ∧ (∀ j, j < e → ∃ p, p < 9 ∧ q j = nI p ∧ c p ≠ -1) ∧
  (∀ p, p < 9 → c p ≠ -1 → p = m ∨ (∃ j, i < j ∧ j < e ∧ q j = nI p) ∨ (∀ k, k < 9 → 0 < G p k → c k ≠ -1)) ∧
  (∀ j, j < k → 0 < G m j → c j ≠ -1)
theorem zq_enter {G : Nat → Nat → Nat} {u v i e : Nat} {q c : Nat → Int32} (h : zq_in0 G u v i e q c) (hi : i < e) (h8 : c 8 = -1) : ∃ m, m < 9 ∧ m ≠ 8 ∧ zq_in1 G u v i m e q c 0 := by
  obtain ⟨h1, h2, h3, h4, h5⟩ := h
  obtain ⟨m, hm, hq, hc⟩ := h4 i hi
  refine ⟨m, hm, fun e8 => hc (by rw [e8]; exact h8), h1, h2, hi, hq, hc, h4, ?_, fun j hj => absurd hj (by omega)⟩
  intro p hp hcp
  rcases h5 p hp hcp with ⟨j, hj1, hj2, hj3⟩ | h
  · by_cases ej : j = i
    · left
      rw [ej, hq] at hj3
      exact ((nI_eq (by omega) (by omega)).mp hj3).symm
    · exact Or.inr (Or.inl ⟨j, by omega, hj2, hj3⟩)
  · exact Or.inr (Or.inr h)
theorem zq_leave {G : Nat → Nat → Nat} {u v i m e : Nat} {q c : Nat → Int32} (h : zq_in1 G u v i m e q c 9) : zq_in0 G u v (i + 1) e q c := by
  obtain ⟨h1, h2, h3, h4, h5, h6, h7, h8⟩ := h
  refine ⟨h1, h2, by omega, h6, fun p hp hcp => ?_⟩
  rcases h7 p hp hcp with h | ⟨j, hj1, hj2, hj3⟩ | h
  · rw [h]
    exact Or.inr h8
  · exact Or.inl ⟨j, by omega, hj2, hj3⟩
  · exact Or.inr h
theorem zq_skip {G : Nat → Nat → Nat} {u v i m e k : Nat} {q c : Nat → Int32} (h : zq_in1 G u v i m e q c k) (hk : 0 < G m k → c k ≠ -1) : zq_in1 G u v i m e q c (k + 1) := by
  obtain ⟨h1, h2, h3, h4, h5, h6, h7, h8⟩ := h
  exact ⟨h1, h2, h3, h4, h5, h6, h7, lt_s h8 hk⟩
theorem zq_visit {G : Nat → Nat → Nat} {u v i m e k : Nat} {q c : Nat → Int32} (hu : u < 7) (hv : v < 7) (huv : u ≠ v) (hsp : ∀ x y, x < 9 → y < 9 → 0 < G x y → zq_edge u v x y) (hm : m < 9) (hm8 : m ≠ 8) (h : zq_in1 G u v i m e q c k) (hk : k < 9) (hck : c k = -1) (hg : 0 < G m k) : zq_in1 G u v i m (e + 1) (upd q e (nI k)) (upd c k (nI m)) (k + 1) := by
  obtain ⟨h1, h2, h3, h4, h5, h6, h7, h8⟩ := h
  obtain ⟨s1, s2⟩ := zq_cm_step hu hv huv hsp h1 hm hm8 h5 hk hck hg
  have qo : ∀ j, j < e → upd q e (nI k) j = q j := fun j hj => pk_un (by omega)
  refine ⟨s1, ?_, by omega, by rw [qo i h3]; exact h4, zq_mono hm h5, ?_, ?_, ?_⟩
  · rw [zq_ct_upd hu hv huv hm hck s2]
    omega
  · intro j hj
    by_cases ej : j = e
    · rw [ej, pk_us]
      exact ⟨k, hk, rfl, by rw [pk_us]; exact zq_nm1 m hm⟩
    · obtain ⟨p, hp, hq, hc⟩ := h6 j (by omega)
      exact ⟨p, hp, by rw [qo j (by omega)]; exact hq, zq_mono hm hc⟩
  · intro p hp hcp
    by_cases ep : p = k
    · exact Or.inr (Or.inl ⟨e, h3, by omega, by rw [pk_us, ep]⟩)
    · rw [pk_un ep] at hcp
      rcases h7 p hp hcp with h | ⟨j, hj1, hj2, hj3⟩ | h
      · exact Or.inl h
      · exact Or.inr (Or.inl ⟨j, hj1, by omega, by rw [qo j hj2]; exact hj3⟩)
      · exact Or.inr (Or.inr (fun k' hk' hg' => zq_mono hm (h k' hk' hg')))
  · refine lt_s (fun j hj hgj => zq_mono hm (h8 j hj hgj)) (fun _ => ?_)
    rw [pk_us]
    exact zq_nm1 m hm
theorem zq_start {G : Nat → Nat → Nat} {u v : Nat} {q c : Nat → Int32} (hu : u < 7) (hv : v < 7) (h : ∀ j, j < 9 → c j = -1) : zq_in0 G u v 0 1 (upd q 0 (nI 7)) (upd c 7 (nI 7)) := by
  have cj : ∀ j, j < 9 → j ≠ 7 → upd c 7 (nI 7) j = -1 := fun j hj n => by rw [pk_un n]; exact h j hj
  have c7 : upd c 7 (nI 7) 7 = nI 7 := pk_us
  refine ⟨⟨c7, fun k hk _ _ => cj k (by omega) (by omega), Or.inl (cj u (by omega) (by omega)), Or.inl (cj v (by omega) (by omega)), Or.inl (cj 8 (by omega) (by omega))⟩, ?_, by omega, ?_, ?_⟩
  · unfold zq_ct
    rw [zq_vi0 (cj u (by omega) (by omega)), zq_vi0 (cj v (by omega) (by omega)), zq_vi0 (cj 8 (by omega) (by omega))]
  · intro j hj
    rw [show j = 0 by omega]
    exact ⟨7, by omega, pk_us, by rw [c7]; decide⟩
  · intro p hp hcp
    by_cases ep : p = 7
    · exact Or.inl ⟨0, by omega, by omega, by rw [ep, pk_us]⟩
    · exact absurd (cj p hp ep) hcp
theorem zq_way_of {G : Nat → Nat → Nat} {u v : Nat} {c : Nat → Int32} (h : zq_cm G u v c) (h8 : c 8 ≠ -1) : zq_wy G u v c ∨ zq_wy G v u c := by
  obtain ⟨h7, ho, hU, hV, hT⟩ := h
  rcases hT with h | h | h
  · exact absurd h h8
  · rcases hU with g | g
    · exact absurd g h.2.2
    · exact Or.inl ⟨h.1, h.2.1, g⟩
  · rcases hV with g | g
    · exact absurd g h.2.2
    · exact Or.inr ⟨h.1, h.2.1, g⟩
theorem zq_cut_of {G : Nat → Nat → Nat} {u v i e : Nat} {q c : Nat → Int32} (h : zq_in0 G u v i e q c) (hi : e ≤ i) (h8 : c 8 = -1) : zq_cut G := by
  obtain ⟨h1, h2, h3, h4, h5⟩ := h
  refine ⟨fun p => c p ≠ -1, ?_, fun z => z h8, fun m k hm hk hcm hg => ?_⟩
  · show c 7 ≠ -1
    rw [h1.1]
    decide
  · rcases h5 m hm hcm with ⟨j, hj1, hj2, hj3⟩ | h
    · omega
    · exact h k hk hg
/-! the search: the walk -/
section
variable {wf fl : Int32} {a1 a2 a3 a4 a5 a6 a7 a8 a9 a10 a11 a12 : Nat → Int32}
variable {G : Nat → Nat → Nat} {u v : Nat} {post : Int32 → St2 → Prop}
theorem zq_fw59 {J : Int32 → Int32 → (Nat → Int32) → (Nat → Int32) → (Nat → Int32) → (Nat → Int32) → (Nat → Int32) → (Nat → Int32) → (Nat → Int32) → (Nat → Int32) → (Nat → Int32) → (Nat → Int32) → (Nat → Int32) → (Nat → Int32) → Prop} (hu : u < 7) (hv : v < 7) (huv : u ≠ v)
    (hmt : zq_mt a6 G) (hsp : ∀ x y, x < 9 → y < 9 → 0 < G x y → zq_edge u v x y) (hbd : ∀ x y, x < 9 → y < 9 → G x y < 2 ^ 31)
    {i m e : Nat} {q c : Nat → Int32} (hm : m < 9) (hm8 : m ≠ 8) (h0 : zq_in1 G u v i m e q c 0)
    (H : ∀ e q c, zq_in0 G u v (i + 1) e q c → J (nI e) (nI (i + 1)) a1 a2 a3 a4 a5 a6 q c a9 a10 a11 a12) :
    ∃ n, wX_findWay_59 post J (nI i) wf fl n (nI e) 0 a1 a2 a3 a4 a5 a6 q c a9 a10 a11 a12 := by
  refine pk_loop (fun n k (s : Nat × (Nat → Int32) × (Nat → Int32)) => wX_findWay_59 post J (nI i) wf fl n (nI s.1) (nI k) a1 a2 a3 a4 a5 a6 s.2.1 s.2.2 a9 a10 a11 a12) (fun k s => zq_in1 G u v i m s.1 s.2.1 s.2.2 k) 9 0 (e, q, c) (by omega) h0 ?_ ?_
  · rintro n ⟨e, q, c⟩ h
    exact pk_le 9 9 (fun _ => nm_r (nI_1 i) (H e q c (zq_leave h))) (fun z => absurd z (by omega))
  · rintro n k ⟨e, q, c⟩ hk h hw
    have h' : zq_in1 G u v i m e q c k := h
    have he : e ≤ 4 := by have := zq_ct_le c u v; have := h'.2.1; omega
    have hie : i < e := h'.2.2.1
    have hq : q i = nI m := h'.2.2.2.1
    show wX_findWay_59 post J (nI i) wf fl (n + 1) (nI e) (nI k) a1 a2 a3 a4 a5 a6 q c a9 a10 a11 a12
    refine pk_le 9 k (fun z => absurd z (by omega)) (fun _ => ⟨pk_in k 9 hk, ?_⟩)
    rw [nI_clamp (show k < 2 ^ 31 by omega), nI_clamp (show i < 2 ^ 31 by omega), nI_clamp (show e < 2 ^ 31 by omega), hq, zq_i9, nI_clamp (show m * 9 + k < 2 ^ 31 by omega), hmt m k hm hk]
    rcases zq_cm_val hu hv h'.1 k hk with hck | ⟨p, hp, hck⟩
    · refine br_f (by rw [hck]; decide) ⟨pk_in i 9 (by omega), pk_in (m * 9 + k) 81 (by omega), ?_⟩
      by_cases hg : 0 < G m k
      · refine br_f (nI_nle hg (hbd m k hm hk)) ⟨pk_in i 9 (by omega), pk_in k 9 hk, nm_e ⟨pk_in e 9 (by omega), nm_e (nm_r (nI_1 e) (nm_r (nI_1 k) ?_))⟩⟩
        exact hw (e + 1, upd q e (nI k), upd c k (nI m)) (zq_visit hu hv huv hsp hm hm8 h' hk hck hg)
      · refine br_t (by rw [show G m k = 0 by omega]; decide) (nm_r (nI_1 k) ?_)
        exact hw (e, q, c) (zq_skip h' (fun z => absurd z hg))
    · refine br_t (by rw [hck]; exact nI_pos' (by omega)) (nm_r (nI_1 k) ?_)
      have nk : c k ≠ -1 := by rw [hck]; exact zq_nm1 p hp
      exact hw (e, q, c) (zq_skip h' (fun _ => nk))
theorem zq_fw127 (hu : u < 7) (hv : v < 7)
    (H0 : ∀ q c, zq_cut G → post 0 (wf, fl, a1, a2, a3, a4, a5, a6, q, c, a9, a10, a11, a12)) (H1 : ∀ q c, zq_wy G u v c ∨ zq_wy G v u c → post 1 (wf, fl, a1, a2, a3, a4, a5, a6, q, c, a9, a10, a11, a12))
    {i e : Nat} {q c : Nat → Int32} (h : zq_in0 G u v i e q c) (hx : e ≤ i ∨ 0 ≤ c 8) : wX_findWay_127 post wf fl a1 a2 a3 a4 a5 a6 q c a9 a10 a11 a12 := by
  rcases zq_cm_val hu hv h.1 8 (by omega) with h8 | ⟨p, hp, h8⟩
  · refine br_t (by rw [h8]; decide) (H0 q c (zq_cut_of h ?_ h8))
    rcases hx with g | g
    · exact g
    · rw [h8] at g
      exact absurd g (by decide)
  · exact br_f (by rw [h8]; exact nI_pos (by omega)) (H1 q c (zq_way_of h.1 (by rw [h8]; exact zq_nm1 p hp)))
theorem zq_fw42 (hu : u < 7) (hv : v < 7) (huv : u ≠ v)
    (hmt : zq_mt a6 G) (hsp : ∀ x y, x < 9 → y < 9 → 0 < G x y → zq_edge u v x y) (hbd : ∀ x y, x < 9 → y < 9 → G x y < 2 ^ 31)
    (H0 : ∀ q c, zq_cut G → post 0 (wf, fl, a1, a2, a3, a4, a5, a6, q, c, a9, a10, a11, a12)) (H1 : ∀ q c, zq_wy G u v c ∨ zq_wy G v u c → post 1 (wf, fl, a1, a2, a3, a4, a5, a6, q, c, a9, a10, a11, a12)) :
    ∀ (f i e : Nat) (q c : Nat → Int32), 9 - i < f → zq_in0 G u v i e q c → wX_findWay_42 post wf fl f (nI e) (nI i) a1 a2 a3 a4 a5 a6 q c a9 a10 a11 a12 := by
  intro f
  induction f with
  | zero => intro i e q c hf; omega
  | succ f ih =>
    intro i e q c hf h
    have he : e ≤ 4 := by have := zq_ct_le c u v; have := h.2.1; omega
    have hie : i ≤ e := h.2.2.1
    refine pk_le e i (fun z => zq_fw127 hu hv H0 H1 h (Or.inl z)) (fun z => ?_)
    refine br_c (fun g => zq_fw127 hu hv H0 H1 h (Or.inr g)) (fun g => ?_)
    have h8 : c 8 = -1 := by
      rcases zq_cm_val hu hv h.1 8 (by omega) with h8 | ⟨p, hp, h8⟩
      · exact h8
      · rw [h8] at g
        exact absurd (nI_pos' (by omega)) g
    obtain ⟨m, hm, hm8, h1⟩ := zq_enter h z h8
    exact zq_fw59 hu hv huv hmt hsp hbd hm hm8 h1 (fun e q c hn => ih (i + 1) e q c (by omega) hn)
theorem zq_findWay (hu : u < 7) (hv : v < 7) (huv : u ≠ v)
    (hmt : zq_mt a6 G) (hsp : ∀ x y, x < 9 → y < 9 → 0 < G x y → zq_edge u v x y) (hbd : ∀ x y, x < 9 → y < 9 → G x y < 2 ^ 31)
    (H0 : ∀ q c, zq_cut G → post 0 (wf, fl, a1, a2, a3, a4, a5, a6, q, c, a9, a10, a11, a12)) (H1 : ∀ q c, zq_wy G u v c ∨ zq_wy G v u c → post 1 (wf, fl, a1, a2, a3, a4, a5, a6, q, c, a9, a10, a11, a12)) :
    wpX_findWay post (wf, fl, a1, a2, a3, a4, a5, a6, a7, a8, a9, a10, a11, a12) := by
  refine pk_loop (fun n i s => wX_findWay_2 post wf fl n (nI i) a1 a2 a3 a4 a5 a6 a7 s a9 a10 a11 a12) (fun i s => ∀ j, j < i → s j = -1) 9 0 a8 (by omega) (fun j hj => absurd hj (by omega)) ?_ ?_
  · intro n s h
    refine pk_le 9 9 (fun _ => nm_e (nm_e ⟨10, ?_⟩)) (fun z => absurd z (by omega))
    exact zq_fw42 hu hv huv hmt hsp hbd H0 H1 10 0 1 _ _ (by omega) (zq_start hu hv h)
  · intro n i s hi h hw
    refine pk_le 9 i (fun z => absurd z (by omega)) (fun _ => ?_)
    rw [nI_clamp (show i < 2 ^ 31 by omega)]
    refine ⟨pk_in i 9 hi, nm_e (nm_r (nI_1 i) (hw _ ?_))⟩
    intro j hj
    by_cases e : j = i
    · rw [e, pk_us]
    · rw [pk_un e]
      exact h j (by omega)
end
end
section
/-! a push along one way -/
def zq_ps (G : Nat → Nat → Nat) (a b d : Nat) : Nat → Nat → Nat := zq_set (zq_set G a b (G a b - d)) b a (G b a + d)
theorem zq_ps_1 (G : Nat → Nat → Nat) {a b : Nat} (d : Nat) (h : a ≠ b) : zq_ps G a b d a b = G a b - d := by
  unfold zq_ps
  rw [zq_set_n _ (by omega), zq_set_s]
theorem zq_ps_2 (G : Nat → Nat → Nat) (a b d : Nat) : zq_ps G a b d b a = G b a + d := zq_set_s _ _ _ _
theorem zq_ps_n (G : Nat → Nat → Nat) {a b x y : Nat} (d : Nat) (h1 : ¬ (x = a ∧ y = b)) (h2 : ¬ (x = b ∧ y = a)) : zq_ps G a b d x y = G x y := by
  unfold zq_ps
  rw [zq_set_n _ h2, zq_set_n _ h1]
theorem zq_sp_ps {G : Nat → Nat → Nat} {u v a b d : Nat} (h : ∀ x y, x < 9 → y < 9 → 0 < G x y → zq_edge u v x y) (h1 : zq_edge u v a b) (h2 : zq_edge u v b a) : ∀ x y, x < 9 → y < 9 → 0 < zq_ps G a b d x y → zq_edge u v x y := by
  intro x y hx hy hg
  by_cases e1 : x = a ∧ y = b
  · rw [e1.1, e1.2]
    exact h1
  by_cases e2 : x = b ∧ y = a
  · rw [e2.1, e2.2]
    exact h2
  rw [zq_ps_n G d e1 e2] at hg
  exact h x y hx hy hg
/-- what is left of a flow f in the net of four places -/
def zq_pic (u v csu csv w cut cvt f : Nat) (G : Nat → Nat → Nat) : Prop :=
  (∀ x y, x < 9 → y < 9 → 0 < G x y → zq_edge u v x y) ∧ G 7 u + G u 7 = csu ∧ G 7 v + G v 7 = csv ∧ G u v + G v u = 2 * w ∧ G u 8 + G 8 u = cut ∧ G v 8 + G 8 v = cvt ∧
  G u 7 + G u v = G 8 u + w ∧ G v 7 + w = G 8 v + G u v ∧ f = G u 7 + G v 7
theorem zq_edge_sym {u v x y : Nat} (h : zq_edge u v x y) : zq_edge v u x y := by
  unfold zq_edge at h ⊢
  omega
theorem zq_pic_sym {u v csu csv w cut cvt f : Nat} {G : Nat → Nat → Nat} (h : zq_pic u v csu csv w cut cvt f G) : zq_pic v u csv csu w cvt cut f G := by
  obtain ⟨h1, h2, h3, h4, h5, h6, h7, h8, h9⟩ := h
  exact ⟨fun x y hx hy hg => zq_edge_sym (h1 x y hx hy hg), h3, h2, by omega, h6, h5, by omega, by omega, by omega⟩
theorem zq_pic_bd {u v csu csv w cut cvt f : Nat} {G : Nat → Nat → Nat} (h : zq_pic u v csu csv w cut cvt f G) (b1 : csu ≤ 1000000) (b2 : csv ≤ 1000000) (b3 : w ≤ 1000000) (b4 : cut ≤ 1000000) (b5 : cvt ≤ 1000000) : ∀ x y, x < 9 → y < 9 → G x y < 2 ^ 31 := by
  obtain ⟨h1, h2, h3, h4, h5, h6, h7, h8, h9⟩ := h
  intro x y hx hy
  by_cases hg : 0 < G x y
  · have e := h1 x y hx hy hg
    rcases e with ⟨e1, e2 | e2⟩ | ⟨e1, e2 | e2 | e2⟩ | ⟨e1, e2 | e2 | e2⟩ | ⟨e1, e2 | e2⟩ <;> (rw [e1, e2]; omega)
  · omega
theorem zq_pic_fb {u v csu csv w cut cvt f : Nat} {G : Nat → Nat → Nat} (h : zq_pic u v csu csv w cut cvt f G) (hB : csu + cvt + w ≤ 900 ∨ csv + cut + w ≤ 900) : f ≤ 900 := by
  obtain ⟨h1, h2, h3, h4, h5, h6, h7, h8, h9⟩ := h
  omega
theorem zq_pic2 {u v csu csv w cut cvt f d : Nat} {G : Nat → Nat → Nat} (hu : u < 7) (hv : v < 7) (huv : u ≠ v) (h : zq_pic u v csu csv w cut cvt f G) (d1 : d ≤ G u 8) (d2 : d ≤ G 7 u) : zq_pic u v csu csv w cut cvt (f + d) (zq_ps (zq_ps G u 8 d) 7 u d) := by
  obtain ⟨h1, h2, h3, h4, h5, h6, h7, h8, h9⟩ := h
  have e1 : zq_ps (zq_ps G u 8 d) 7 u d 7 u = G 7 u - d := by rw [zq_ps_1 _ _ (by omega), zq_ps_n _ _ (by omega) (by omega)]
  have e2 : zq_ps (zq_ps G u 8 d) 7 u d u 7 = G u 7 + d := by rw [zq_ps_2, zq_ps_n _ _ (by omega) (by omega)]
  have e3 : zq_ps (zq_ps G u 8 d) 7 u d u 8 = G u 8 - d := by rw [zq_ps_n _ _ (by omega) (by omega), zq_ps_1 _ _ (by omega)]
  have e4 : zq_ps (zq_ps G u 8 d) 7 u d 8 u = G 8 u + d := by rw [zq_ps_n _ _ (by omega) (by omega), zq_ps_2]
  have e5 : zq_ps (zq_ps G u 8 d) 7 u d 7 v = G 7 v := by rw [zq_ps_n _ _ (by omega) (by omega), zq_ps_n _ _ (by omega) (by omega)]
  have e6 : zq_ps (zq_ps G u 8 d) 7 u d v 7 = G v 7 := by rw [zq_ps_n _ _ (by omega) (by omega), zq_ps_n _ _ (by omega) (by omega)]
  have e7 : zq_ps (zq_ps G u 8 d) 7 u d u v = G u v := by rw [zq_ps_n _ _ (by omega) (by omega), zq_ps_n _ _ (by omega) (by omega)]
  have e8 : zq_ps (zq_ps G u 8 d) 7 u d v u = G v u := by rw [zq_ps_n _ _ (by omega) (by omega), zq_ps_n _ _ (by omega) (by omega)]
  have e9 : zq_ps (zq_ps G u 8 d) 7 u d v 8 = G v 8 := by rw [zq_ps_n _ _ (by omega) (by omega), zq_ps_n _ _ (by omega) (by omega)]
  have e10 : zq_ps (zq_ps G u 8 d) 7 u d 8 v = G 8 v := by rw [zq_ps_n _ _ (by omega) (by omega), zq_ps_n _ _ (by omega) (by omega)]
  refine ⟨zq_sp_ps (zq_sp_ps h1 (by unfold zq_edge; omega) (by unfold zq_edge; omega)) (by unfold zq_edge; omega) (by unfold zq_edge; omega), ?_⟩
  rw [e1, e2, e3, e4, e5, e6, e7, e8, e9, e10]
  clear e1 e2 e3 e4 e5 e6 e7 e8 e9 e10 h1
  omega
theorem zq_pic3 {u v csu csv w cut cvt f d : Nat} {G : Nat → Nat → Nat} (hu : u < 7) (hv : v < 7) (huv : u ≠ v) (h : zq_pic u v csu csv w cut cvt f G) (d1 : d ≤ G u 8) (d2 : d ≤ G v u) (d3 : d ≤ G 7 v) : zq_pic u v csu csv w cut cvt (f + d) (zq_ps (zq_ps (zq_ps G u 8 d) v u d) 7 v d) := by
  obtain ⟨h1, h2, h3, h4, h5, h6, h7, h8, h9⟩ := h
  have e1 : zq_ps (zq_ps (zq_ps G u 8 d) v u d) 7 v d 7 u = G 7 u := by rw [zq_ps_n _ _ (by omega) (by omega), zq_ps_n _ _ (by omega) (by omega), zq_ps_n _ _ (by omega) (by omega)]
  have e2 : zq_ps (zq_ps (zq_ps G u 8 d) v u d) 7 v d u 7 = G u 7 := by rw [zq_ps_n _ _ (by omega) (by omega), zq_ps_n _ _ (by omega) (by omega), zq_ps_n _ _ (by omega) (by omega)]
  have e3 : zq_ps (zq_ps (zq_ps G u 8 d) v u d) 7 v d u 8 = G u 8 - d := by rw [zq_ps_n _ _ (by omega) (by omega), zq_ps_n _ _ (by omega) (by omega), zq_ps_1 _ _ (by omega)]
  have e4 : zq_ps (zq_ps (zq_ps G u 8 d) v u d) 7 v d 8 u = G 8 u + d := by rw [zq_ps_n _ _ (by omega) (by omega), zq_ps_n _ _ (by omega) (by omega), zq_ps_2]
  have e5 : zq_ps (zq_ps (zq_ps G u 8 d) v u d) 7 v d 7 v = G 7 v - d := by rw [zq_ps_1 _ _ (by omega), zq_ps_n _ _ (by omega) (by omega), zq_ps_n _ _ (by omega) (by omega)]
  have e6 : zq_ps (zq_ps (zq_ps G u 8 d) v u d) 7 v d v 7 = G v 7 + d := by rw [zq_ps_2, zq_ps_n _ _ (by omega) (by omega), zq_ps_n _ _ (by omega) (by omega)]
  have e7 : zq_ps (zq_ps (zq_ps G u 8 d) v u d) 7 v d u v = G u v + d := by rw [zq_ps_n _ _ (by omega) (by omega), zq_ps_2, zq_ps_n _ _ (by omega) (by omega)]
  have e8 : zq_ps (zq_ps (zq_ps G u 8 d) v u d) 7 v d v u = G v u - d := by rw [zq_ps_n _ _ (by omega) (by omega), zq_ps_1 _ _ (by omega), zq_ps_n _ _ (by omega) (by omega)]
  have e9 : zq_ps (zq_ps (zq_ps G u 8 d) v u d) 7 v d v 8 = G v 8 := by rw [zq_ps_n _ _ (by omega) (by omega), zq_ps_n _ _ (by omega) (by omega), zq_ps_n _ _ (by omega) (by omega)]
  have e10 : zq_ps (zq_ps (zq_ps G u 8 d) v u d) 7 v d 8 v = G 8 v := by rw [zq_ps_n _ _ (by omega) (by omega), zq_ps_n _ _ (by omega) (by omega), zq_ps_n _ _ (by omega) (by omega)]
  refine ⟨zq_sp_ps (zq_sp_ps (zq_sp_ps h1 (by unfold zq_edge; omega) (by unfold zq_edge; omega)) (by unfold zq_edge; omega) (by unfold zq_edge; omega)) (by unfold zq_edge; omega) (by unfold zq_edge; omega), ?_⟩
  rw [e1, e2, e3, e4, e5, e6, e7, e8, e9, e10]
  clear e1 e2 e3 e4 e5 e6 e7 e8 e9 e10 h1
  omega
/-! narrowest and push: the walk -/
section
variable {wf fl : Int32} {a1 a2 a3 a4 a5 a6 a7 a8 a9 a10 a11 a12 : Nat → Int32}
variable {G : Nat → Nat → Nat}
theorem zq_nstep {post : Int32 → Prop} {n i d b a g : Nat} (hi : i < 9) (hb : b < 9) (hb7 : b ≠ 7) (ha : a < 9) (hc : a8 b = nI a) (hm : a6 (a * 9 + b) = nI g) (hg : g < 2 ^ 31) (hd : d < 2 ^ 31) (H : wX_narrowest_8 post wf fl a1 a2 a3 a4 a5 a6 a7 a8 a9 a10 a11 a12 n (nI (min d g)) (nI a) (nI (i + 1))) : wX_narrowest_8 post wf fl a1 a2 a3 a4 a5 a6 a7 a8 a9 a10 a11 a12 (n + 1) (nI d) (nI b) (nI i) := by
  refine pk_le 9 i (fun z => absurd z (by omega)) (fun _ => pk_eq b 7 (fun z => absurd z hb7) (fun _ => ⟨pk_in b 9 hb, ?_⟩))
  rw [nI_clamp (show b < 2 ^ 31 by omega), hc, zq_i9, nI_clamp (show a * 9 + b < 2 ^ 31 by omega), hm]
  refine ⟨pk_in (a * 9 + b) 81 (by omega), nm_e ?_⟩
  refine pk_le d g (fun z => ⟨pk_in b 9 hb, nm_e (nm_r (nI_1 i) ?_)⟩) (fun z => ⟨pk_in b 9 hb, nm_e (nm_r (nI_1 i) ?_)⟩)
  · rw [show min d g = d by omega] at H
    exact H
  · rw [show min d g = g by omega] at H
    exact H
theorem zq_nend {post : Int32 → Prop} {n i d : Nat} (hi : i < 9) (H : post (nI d)) : wX_narrowest_8 post wf fl a1 a2 a3 a4 a5 a6 a7 a8 a9 a10 a11 a12 (n + 1) (nI d) (nI 7) (nI i) :=
  pk_le 9 i (fun z => absurd z (by omega)) (fun _ => pk_eq 7 7 (fun _ => H) (fun z => absurd rfl z))
theorem zq_nar2 {post : Int32 → Prop} {p : Nat} (hp : p < 7) (hmt : zq_mt a6 G) (hbd : ∀ x y, x < 9 → y < 9 → G x y < 2 ^ 31) (c8 : a8 8 = nI p) (g1 : 0 < G p 8) (c7 : a8 p = nI 7) (g2 : 0 < G 7 p)
    (H : ∀ d, 0 < d → d ≤ G p 8 → d ≤ G 7 p → post (nI d)) : wpX_narrowest post (wf, fl, a1, a2, a3, a4, a5, a6, a7, a8, a9, a10, a11, a12) := by
  have b1 := hbd p 8 (by omega) (by omega)
  have b2 := hbd 7 p (by omega) (by omega)
  refine ⟨3, ?_⟩
  refine zq_nstep (d := 200000) (b := 8) (i := 0) (by omega) (by omega) (by omega) (show p < 9 by omega) c8 (hmt p 8 (by omega) (by omega)) b1 (by omega) ?_
  refine zq_nstep (by omega) (show p < 9 by omega) (by omega) (show 7 < 9 by omega) c7 (hmt 7 p (by omega) (by omega)) b2 (by omega) ?_
  exact zq_nend (by omega) (H _ (by omega) (by omega) (by omega))
theorem zq_nar3 {post : Int32 → Prop} {p r : Nat} (hp : p < 7) (hr : r < 7) (hmt : zq_mt a6 G) (hbd : ∀ x y, x < 9 → y < 9 → G x y < 2 ^ 31) (c8 : a8 8 = nI p) (g1 : 0 < G p 8) (cp : a8 p = nI r) (g2 : 0 < G r p) (c7 : a8 r = nI 7) (g3 : 0 < G 7 r)
    (H : ∀ d, 0 < d → d ≤ G p 8 → d ≤ G r p → d ≤ G 7 r → post (nI d)) : wpX_narrowest post (wf, fl, a1, a2, a3, a4, a5, a6, a7, a8, a9, a10, a11, a12) := by
  have b1 := hbd p 8 (by omega) (by omega)
  have b2 := hbd r p (by omega) (by omega)
  have b3 := hbd 7 r (by omega) (by omega)
  refine ⟨4, ?_⟩
  refine zq_nstep (d := 200000) (b := 8) (i := 0) (by omega) (by omega) (by omega) (show p < 9 by omega) c8 (hmt p 8 (by omega) (by omega)) b1 (by omega) ?_
  refine zq_nstep (by omega) (show p < 9 by omega) (by omega) (show r < 9 by omega) cp (hmt r p (by omega) (by omega)) b2 (by omega) ?_
  refine zq_nstep (by omega) (show r < 9 by omega) (by omega) (show 7 < 9 by omega) c7 (hmt 7 r (by omega) (by omega)) b3 (by omega) ?_
  exact zq_nend (by omega) (H _ (by omega) (by omega) (by omega) (by omega))
theorem zq_pstep {post : St2 → Prop} {n i d b a : Nat} {s : Nat → Int32} (hi : i < 9) (hb : b < 9) (hb7 : b ≠ 7) (ha : a < 9) (hab : a ≠ b) (hc : a8 b = nI a) (hm : zq_mt s G) (hd : d ≤ G a b)
    (H : ∀ s', zq_mt s' (zq_ps G a b d) → wX_push_5 post (nI d) wf fl n (nI a) (nI (i + 1)) a1 a2 a3 a4 a5 s' a7 a8 a9 a10 a11 a12) : wX_push_5 post (nI d) wf fl (n + 1) (nI b) (nI i) a1 a2 a3 a4 a5 s a7 a8 a9 a10 a11 a12 := by
  refine pk_le 9 i (fun z => absurd z (by omega)) (fun _ => pk_eq b 7 (fun z => absurd z hb7) (fun _ => ⟨pk_in b 9 hb, ?_⟩))
  rw [nI_clamp (show b < 2 ^ 31 by omega), hc, zq_i9 a b, zq_i9 b a, nI_clamp (show a * 9 + b < 2 ^ 31 by omega), nI_clamp (show b * 9 + a < 2 ^ 31 by omega)]
  refine ⟨pk_in (a * 9 + b) 81 (by omega), pk_in (a * 9 + b) 81 (by omega), nm_e ⟨pk_in b 9 hb, pk_in (b * 9 + a) 81 (by omega), pk_in (b * 9 + a) 81 (by omega), nm_e ⟨pk_in b 9 hb, nm_e (nm_r (nI_1 i) (H _ ?_))⟩⟩⟩
  have h1 : zq_mt (upd s (a * 9 + b) (s (a * 9 + b) - nI d)) (zq_set G a b (G a b - d)) := zq_mt_set hm hb (by rw [hm a b ha hb, pk_sub hd])
  refine zq_mt_set h1 ha ?_
  rw [h1 b a hb ha, zq_set_n _ (by omega), nI_add]
theorem zq_pend {post : St2 → Prop} {n i d : Nat} (hi : i < 9) (H : post (wf, fl, a1, a2, a3, a4, a5, a6, a7, a8, a9, a10, a11, a12)) : wX_push_5 post (nI d) wf fl (n + 1) (nI 7) (nI i) a1 a2 a3 a4 a5 a6 a7 a8 a9 a10 a11 a12 :=
  pk_le 9 i (fun z => absurd z (by omega)) (fun _ => pk_eq 7 7 (fun _ => H) (fun z => absurd rfl z))
theorem zq_push2 {post : St2 → Prop} {p d : Nat} (hp : p < 7) (hmt : zq_mt a6 G) (c8 : a8 8 = nI p) (c7 : a8 p = nI 7) (d1 : d ≤ G p 8) (d2 : d ≤ G 7 p)
    (H : ∀ s, zq_mt s (zq_ps (zq_ps G p 8 d) 7 p d) → post (wf, fl, a1, a2, a3, a4, a5, s, a7, a8, a9, a10, a11, a12)) : wpX_push post (wf, fl, a1, a2, a3, a4, a5, a6, a7, a8, a9, a10, a11, a12) (nI d) := by
  refine ⟨3, ?_⟩
  refine zq_pstep (b := 8) (i := 0) (by omega) (by omega) (by omega) (show p < 9 by omega) (by omega) c8 hmt d1 (fun s1 h1 => ?_)
  refine zq_pstep (by omega) (show p < 9 by omega) (by omega) (show 7 < 9 by omega) (by omega) c7 h1 (by rw [zq_ps_n _ _ (by omega) (by omega)]; exact d2) (fun s2 h2 => ?_)
  exact zq_pend (by omega) (H s2 h2)
theorem zq_push3 {post : St2 → Prop} {p r d : Nat} (hp : p < 7) (hr : r < 7) (hpr : p ≠ r) (hmt : zq_mt a6 G) (c8 : a8 8 = nI p) (cp : a8 p = nI r) (c7 : a8 r = nI 7) (d1 : d ≤ G p 8) (d2 : d ≤ G r p) (d3 : d ≤ G 7 r)
    (H : ∀ s, zq_mt s (zq_ps (zq_ps (zq_ps G p 8 d) r p d) 7 r d) → post (wf, fl, a1, a2, a3, a4, a5, s, a7, a8, a9, a10, a11, a12)) : wpX_push post (wf, fl, a1, a2, a3, a4, a5, a6, a7, a8, a9, a10, a11, a12) (nI d) := by
  refine ⟨4, ?_⟩
  refine zq_pstep (b := 8) (i := 0) (by omega) (by omega) (by omega) (show p < 9 by omega) (by omega) c8 hmt d1 (fun s1 h1 => ?_)
  refine zq_pstep (by omega) (show p < 9 by omega) (by omega) (show r < 9 by omega) (by omega) cp h1 (by rw [zq_ps_n _ _ (by omega) (by omega)]; exact d2) (fun s2 h2 => ?_)
  refine zq_pstep (by omega) (show r < 9 by omega) (by omega) (show 7 < 9 by omega) (by omega) c7 h2 (by rw [zq_ps_n _ _ (by omega) (by omega), zq_ps_n _ _ (by omega) (by omega)]; exact d3) (fun s3 h3 => ?_)
  exact zq_pend (by omega) (H s3 h3)
variable {u v csu csv w cut cvt : Nat}
theorem zq_aug {Q : Int32 → St2 → Prop} {f : Nat} (hu : u < 7) (hv : v < 7) (huv : u ≠ v) (hmt : zq_mt a6 G) (hbd : ∀ x y, x < 9 → y < 9 → G x y < 2 ^ 31) (hp : zq_pic u v csu csv w cut cvt f G) (hw : zq_wy G u v a8)
    (K : ∀ d G' s, 0 < d → zq_pic u v csu csv w cut cvt (f + d) G' → zq_mt s G' → Q (nI d) (wf, fl, a1, a2, a3, a4, a5, s, a7, a8, a9, a10, a11, a12)) : wpX_narrowest (fun r => wpX_push (Q r) (wf, fl, a1, a2, a3, a4, a5, a6, a7, a8, a9, a10, a11, a12) r) (wf, fl, a1, a2, a3, a4, a5, a6, a7, a8, a9, a10, a11, a12) := by
  obtain ⟨c8, g8, hw⟩ := hw
  rcases hw with ⟨cu, gu⟩ | ⟨cu, gu, cv, gv⟩
  · exact zq_nar2 hu hmt hbd c8 g8 cu gu (fun d hd h1 h2 => zq_push2 hu hmt c8 cu h1 h2 (fun s hs => K d _ s hd (zq_pic2 hu hv huv hp h1 h2) hs))
  · exact zq_nar3 hu hv hmt hbd c8 g8 cu gu cv gv (fun d hd h1 h2 h3 => zq_push3 hu hv huv hmt c8 cu cv h1 h2 h3 (fun s hs => K d _ s hd (zq_pic3 hu hv huv hp h1 h2 h3) hs))
theorem zq_grow12 {post : St2 → Prop} (hu : u < 7) (hv : v < 7) (huv : u ≠ v) (b1 : csu ≤ 1000000) (b2 : csv ≤ 1000000) (b3 : w ≤ 1000000) (b4 : cut ≤ 1000000) (b5 : cvt ≤ 1000000)
    (hB : csu + cvt + w ≤ 900 ∨ csv + cut + w ≤ 900)
    (H : ∀ f G s q c, zq_mt s G → zq_pic u v csu csv w cut cvt f G → zq_cut G → post (wf, nI f, a1, a2, a3, a4, a5, s, q, c, a9, a10, a11, a12)) :
    ∀ (n i f : Nat) (r : Int32) (G : Nat → Nat → Nat) (s q c : Nat → Int32), i ≤ f → 1000 - i < n → zq_mt s G → zq_pic u v csu csv w cut cvt f G → (r = 0 ∧ zq_cut G) ∨ (r = 1 ∧ (zq_wy G u v c ∨ zq_wy G v u c)) →
      wX_grow_12 post n r (nI i) wf (nI f) a1 a2 a3 a4 a5 s q c a9 a10 a11 a12 := by
  intro n
  induction n with
  | zero => intro i f r G s q c _ hn; omega
  | succ n ih =>
    intro i f r G s q c hif hn hmt hp hr
    have hf : f ≤ 900 := zq_pic_fb hp hB
    have hbd := zq_pic_bd hp b1 b2 b3 b4 b5
    refine pk_le 1000 i (fun z => absurd z (by omega)) (fun _ => ?_)
    rcases hr with ⟨rfl, hc⟩ | ⟨rfl, hw⟩
    · exact br_t rfl (H f G s q c hmt hp hc)
    · refine br_f (by decide) ?_
      rcases hw with hw | hw
      · refine zq_aug hu hv huv hmt hbd hp hw (fun d G' s' hd hp' hs' => ?_)
        refine nm_r (nI_add f d) ?_
        refine zq_findWay hu hv huv hs' hp'.1 (zq_pic_bd hp' b1 b2 b3 b4 b5) (fun q c hc => nm_r (nI_1 i) ?_) (fun q c hc => nm_r (nI_1 i) ?_)
        · exact ih (i + 1) (f + d) 0 G' s' q c (by omega) (by omega) hs' hp' (Or.inl ⟨rfl, hc⟩)
        · exact ih (i + 1) (f + d) 1 G' s' q c (by omega) (by omega) hs' hp' (Or.inr ⟨rfl, hc⟩)
      · refine zq_aug hv hu (Ne.symm huv) hmt hbd (zq_pic_sym hp) hw (fun d G' s' hd hp' hs' => ?_)
        refine nm_r (nI_add f d) ?_
        refine zq_findWay hu hv huv hs' (zq_pic_sym hp').1 (zq_pic_bd hp' b2 b1 b3 b5 b4) (fun q c hc => nm_r (nI_1 i) ?_) (fun q c hc => nm_r (nI_1 i) ?_)
        · exact ih (i + 1) (f + d) 0 G' s' q c (by omega) (by omega) hs' (zq_pic_sym hp') (Or.inl ⟨rfl, hc⟩)
        · exact ih (i + 1) (f + d) 1 G' s' q c (by omega) (by omega) hs' (zq_pic_sym hp') (Or.inr ⟨rfl, hc⟩)
theorem zq_grow {post : St2 → Prop} (hu : u < 7) (hv : v < 7) (huv : u ≠ v) (b1 : csu ≤ 1000000) (b2 : csv ≤ 1000000) (b3 : w ≤ 1000000) (b4 : cut ≤ 1000000) (b5 : cvt ≤ 1000000)
    (hB : csu + cvt + w ≤ 900 ∨ csv + cut + w ≤ 900) (hmt : zq_mt a6 G) (hp : zq_pic u v csu csv w cut cvt 0 G)
    (H : ∀ f G s q c, zq_mt s G → zq_pic u v csu csv w cut cvt f G → zq_cut G → post (wf, nI f, a1, a2, a3, a4, a5, s, q, c, a9, a10, a11, a12)) :
    wpX_grow post (wf, fl, a1, a2, a3, a4, a5, a6, a7, a8, a9, a10, a11, a12) := by
  refine zq_findWay (fl := 0) hu hv huv hmt hp.1 (zq_pic_bd hp b1 b2 b3 b4 b5) (fun q c hc => ⟨1001, ?_⟩) (fun q c hc => ⟨1001, ?_⟩)
  · exact zq_grow12 hu hv huv b1 b2 b3 b4 b5 hB H 1001 0 0 0 G a6 q c (by omega) (by omega) hmt hp (Or.inl ⟨rfl, hc⟩)
  · exact zq_grow12 hu hv huv b1 b2 b3 b4 b5 hB H 1001 0 0 1 G a6 q c (by omega) (by omega) hmt hp (Or.inr ⟨rfl, hc⟩)
end
end
section
/-! bits (the first rows are of the kit's BITS rows, renamed) -/
def zq_tb (x : Int32) (i : Nat) : Bool := x.toBitVec.getLsbD i
theorem zq_tb_ext {x y : Int32} (h : ∀ i, i < 32 → zq_tb x i = zq_tb y i) : x = y := Int32.toBitVec_inj.mp (BitVec.eq_of_getLsbD_eq (fun i hi => h i hi))
theorem zq_tb_or (x y : Int32) (i : Nat) : zq_tb (x ||| y) i = (zq_tb x i || zq_tb y i) := by unfold zq_tb; rw [Int32.toBitVec_or, BitVec.getLsbD_or]
theorem zq_tb_and (x y : Int32) (i : Nat) : zq_tb (x &&& y) i = (zq_tb x i && zq_tb y i) := by unfold zq_tb; rw [Int32.toBitVec_and, BitVec.getLsbD_and]
theorem zq_tb_sl : ∀ n, n < 32 → ((nI n &&& 31).toBitVec.smod 32).toNat = n := by decide +kernel
theorem zq_tb_sshr (n : Nat) (hn : n < 32) (x : Int32) {i : Nat} (hi : i < 32) : zq_tb (x >>> (nI n &&& 31)) i = if n + i < 32 then zq_tb x (n + i) else zq_tb x 31 := by
  unfold zq_tb
  rw [Int32.toBitVec_shiftRight]
  show (x.toBitVec.sshiftRight ((nI n &&& 31).toBitVec.smod 32).toNat).getLsbD i = _
  rw [zq_tb_sl n hn, BitVec.getLsbD_sshiftRight, BitVec.msb_eq_getLsbD_last]
  simp [hi]
theorem zq_tb_1 : ∀ i, i < 32 → zq_tb 1 i = decide (i = 0) := by decide +kernel
/-- bit b of x, as the class asks for it -/
def zq_bt (x : Int32) (b : Nat) : Prop := ((x >>> (nI b &&& 31)) &&& 1) = 1
theorem zq_bt_iff (x : Int32) {b : Nat} (hb : b < 32) : zq_bt x b ↔ zq_tb x b = true := by
  have e : zq_tb (x >>> (nI b &&& 31)) 0 = zq_tb x b := by
    rw [zq_tb_sshr b hb x (by omega), if_pos (by omega)]
    rfl
  constructor
  · intro h
    have h' : zq_tb ((x >>> (nI b &&& 31)) &&& 1) 0 = zq_tb 1 0 := by rw [show ((x >>> (nI b &&& 31)) &&& 1) = 1 from h]
    rw [zq_tb_and, e, zq_tb_1 0 (by omega)] at h'
    simpa using h'
  · intro h
    refine zq_tb_ext (fun i hi => ?_)
    rw [zq_tb_and, zq_tb_1 i hi]
    by_cases e0 : i = 0
    · rw [e0, e, h]
      rfl
    · rw [decide_eq_false e0, Bool.and_false]
theorem zq_bt_or (x y : Int32) {b : Nat} (hb : b < 32) : zq_bt (x ||| y) b ↔ zq_bt x b ∨ zq_bt y b := by
  rw [zq_bt_iff _ hb, zq_bt_iff _ hb, zq_bt_iff _ hb, zq_tb_or, Bool.or_eq_true]
theorem zq_bt_sh0 : ∀ c, c < 9 → ∀ b, b < 9 → ((((1 : Int32) <<< (nI c &&& 31)) >>> (nI b &&& 31)) &&& 1 = 1 ↔ c = b) := by decide +kernel
theorem zq_bt_sh {c b : Nat} (hc : c < 9) (hb : b < 9) : zq_bt ((1 : Int32) <<< (nI c &&& 31)) b ↔ c = b := zq_bt_sh0 c hc b hb
theorem zq_in {post : Int32 → Prop} {x : Int32} {b : Nat} (h1 : zq_bt x b → post 1) (h0 : ¬ zq_bt x b → post 0) : wpX_in post () x (nI b) := br_c h1 h0
/-! what each place reaches -/
def zq_r1 (G : Nat → Nat → Nat) (R : Nat → Int32) (u : Nat) : Prop := ∀ a, a < u → ∀ b, b < 9 → (zq_bt (R a) b ↔ (a = b ∨ 0 < G a b))
def zq_r2 (G : Nat → Nat → Nat) (R : Nat → Int32) : Prop :=
  (∀ a b, a < 9 → b < 9 → 0 < G a b → zq_bt (R a) b) ∧
  (∀ C : Nat → Prop, (∀ a b, a < 9 → b < 9 → C a → 0 < G a b → C b) → ∀ a b, a < 9 → b < 9 → C a → zq_bt (R a) b → C b)
theorem zq_r12 {G : Nat → Nat → Nat} {R : Nat → Int32} (h : zq_r1 G R 9) : zq_r2 G R := by
  refine ⟨fun a b ha hb hg => (h a ha b hb).mpr (Or.inr hg), fun C hC a b ha hb hca hbt => ?_⟩
  rcases (h a ha b hb).mp hbt with e | e
  · rw [← e]
    exact hca
  · exact hC a b ha hb hca e
theorem zq_r2_or {G : Nat → Nat → Nat} {R : Nat → Int32} {x k : Nat} (hx : x < 9) (hk : k < 9) (h : zq_r2 G R) (hb : zq_bt (R x) k) : zq_r2 G (upd R x (R x ||| R k)) := by
  refine ⟨fun a b ha hb hg => ?_, fun C hC a b ha hb' hca hbt => ?_⟩
  · by_cases e : a = x
    · rw [e, pk_us, zq_bt_or _ _ (by omega), ← e]
      exact Or.inl (h.1 a b ha hb hg)
    · rw [pk_un e]
      exact h.1 a b ha hb hg
  · by_cases e : a = x
    · rw [e, pk_us, zq_bt_or _ _ (by omega)] at hbt
      rw [e] at hca
      rcases hbt with g | g
      · exact h.2 C hC x b hx hb' hca g
      · exact h.2 C hC k b hk hb' (h.2 C hC x k hx hk hca hb) g
    · rw [pk_un e] at hbt
      exact h.2 C hC a b ha hb' hca hbt
section
variable {wf fl : Int32} {a1 a2 a3 a4 a5 a6 a7 a8 a9 a10 a11 a12 : Nat → Int32}
variable {G : Nat → Nat → Nat} {post : St2 → Prop}
theorem zq_cr73 {J : Int32 → (Nat → Int32) → (Nat → Int32) → (Nat → Int32) → (Nat → Int32) → (Nat → Int32) → (Nat → Int32) → (Nat → Int32) → (Nat → Int32) → (Nat → Int32) → (Nat → Int32) → (Nat → Int32) → (Nat → Int32) → Prop} {k : Nat} (hk : k < 9) (h0 : zq_r2 G a9)
    (H : ∀ R, zq_r2 G R → J (nI (k + 1)) a1 a2 a3 a4 a5 a6 a7 a8 R a10 a11 a12) : ∃ n, wX_closeReach_73 post J (nI k) wf fl n 0 a1 a2 a3 a4 a5 a6 a7 a8 a9 a10 a11 a12 := by
  refine pk_loop (fun n i R => wX_closeReach_73 post J (nI k) wf fl n (nI i) a1 a2 a3 a4 a5 a6 a7 a8 R a10 a11 a12) (fun _ R => zq_r2 G R) 9 0 a9 (by omega) h0 ?_ ?_
  · intro n R h
    exact pk_le 9 9 (fun _ => nm_r (nI_1 k) (H R h)) (fun z => absurd z (by omega))
  · intro n i R hi h hw
    refine pk_le 9 i (fun z => absurd z (by omega)) (fun _ => ⟨pk_in i 9 hi, ?_⟩)
    rw [nI_clamp (show i < 2 ^ 31 by omega), nI_clamp (show k < 2 ^ 31 by omega)]
    refine zq_in (fun hb => ?_) (fun hb => ?_)
    · exact br_f (by decide) ⟨pk_in i 9 hi, pk_in k 9 hk, pk_in i 9 hi, nm_e (nm_r (nI_1 i) (hw _ (zq_r2_or hi hk h hb)))⟩
    · exact br_t rfl (nm_r (nI_1 i) (hw R h))
theorem zq_cr65 (h0 : zq_r2 G a9) (H : ∀ R, zq_r2 G R → post (wf, fl, a1, a2, a3, a4, a5, a6, a7, a8, R, a10, a11, a12)) : ∃ n, wX_closeReach_65 post wf fl n 0 a1 a2 a3 a4 a5 a6 a7 a8 a9 a10 a11 a12 := by
  refine pk_loop (fun n i R => wX_closeReach_65 post wf fl n (nI i) a1 a2 a3 a4 a5 a6 a7 a8 R a10 a11 a12) (fun _ R => zq_r2 G R) 9 0 a9 (by omega) h0 ?_ ?_
  · intro n R h
    exact pk_le 9 9 (fun _ => H R h) (fun z => absurd z (by omega))
  · intro n i R hi h hw
    exact pk_le 9 i (fun z => absurd z (by omega)) (fun _ => zq_cr73 hi h hw)
theorem zq_cr19 {J : Int32 → (Nat → Int32) → (Nat → Int32) → (Nat → Int32) → (Nat → Int32) → (Nat → Int32) → (Nat → Int32) → (Nat → Int32) → (Nat → Int32) → (Nat → Int32) → (Nat → Int32) → (Nat → Int32) → (Nat → Int32) → Prop} {u : Nat} (hu : u < 9)
    (hmt : zq_mt a6 G) (hbd : ∀ x y, x < 9 → y < 9 → G x y < 2 ^ 31) (h0 : zq_r1 G a9 u) (h1 : a9 u = (1 : Int32) <<< (nI u &&& 31))
    (H : ∀ R, zq_r1 G R (u + 1) → J (nI (u + 1)) a1 a2 a3 a4 a5 a6 a7 a8 R a10 a11 a12) : ∃ n, wX_closeReach_19 post J (nI u) wf fl n 0 a1 a2 a3 a4 a5 a6 a7 a8 a9 a10 a11 a12 := by
  refine pk_loop (fun n i R => wX_closeReach_19 post J (nI u) wf fl n (nI i) a1 a2 a3 a4 a5 a6 a7 a8 R a10 a11 a12) (fun k R => zq_r1 G R u ∧ ∀ b, b < 9 → (zq_bt (R u) b ↔ (u = b ∨ (b < k ∧ 0 < G u b)))) 9 0 a9 (by omega) ?_ ?_ ?_
  · refine ⟨h0, fun b hb => ?_⟩
    rw [h1, zq_bt_sh hu hb]
    omega
  · intro n R h
    refine pk_le 9 9 (fun _ => nm_r (nI_1 u) (H R (lt_s h.1 (fun b hb => ?_)))) (fun z => absurd z (by omega))
    rw [h.2 b hb]
    omega
  · intro n k R hk h hw
    refine pk_le 9 k (fun z => absurd z (by omega)) (fun _ => ?_)
    rw [zq_i9, nI_clamp (show u * 9 + k < 2 ^ 31 by omega), nI_clamp (show u < 2 ^ 31 by omega), hmt u k hu hk]
    refine ⟨pk_in (u * 9 + k) 81 (by omega), ?_⟩
    by_cases hg : 0 < G u k
    · refine br_f (nI_nle hg (hbd u k hu hk)) ⟨pk_in u 9 hu, pk_in u 9 hu, nm_e (nm_r (nI_1 k) (hw _ ⟨fun a ha => ?_, fun b hb => ?_⟩))⟩
      · rw [pk_un (show a ≠ u by omega)]
        exact h.1 a ha
      · rw [pk_us, zq_bt_or _ _ (by omega), zq_bt_sh hk hb, h.2 b hb]
        constructor
        · rintro ((e | e) | e)
          · exact Or.inl e
          · exact Or.inr ⟨by omega, e.2⟩
          · rw [← e]
            exact Or.inr ⟨by omega, hg⟩
        · rintro (e | e)
          · exact Or.inl (Or.inl e)
          · by_cases eb : k = b
            · exact Or.inr eb
            · exact Or.inl (Or.inr ⟨by omega, e.2⟩)
    · refine br_t (by rw [show G u k = 0 by omega]; decide) (nm_r (nI_1 k) (hw R ⟨h.1, fun b hb => ?_⟩))
      rw [h.2 b hb]
      constructor
      · rintro (e | e)
        · exact Or.inl e
        · exact Or.inr ⟨by omega, e.2⟩
      · rintro (e | e)
        · exact Or.inl e
        · refine Or.inr ⟨?_, e.2⟩
          rcases Nat.lt_or_ge b k with g | g
          · exact g
          · have eb : b = k := by omega
            rw [eb] at e
            exact absurd e.2 hg
theorem zq_closeReach (hmt : zq_mt a6 G) (hbd : ∀ x y, x < 9 → y < 9 → G x y < 2 ^ 31) (H : ∀ R, zq_r2 G R → post (wf, fl, a1, a2, a3, a4, a5, a6, a7, a8, R, a10, a11, a12)) : wpX_closeReach post (wf, fl, a1, a2, a3, a4, a5, a6, a7, a8, a9, a10, a11, a12) := by
  refine pk_loop (fun n i R => wX_closeReach_2 post wf fl n (nI i) a1 a2 a3 a4 a5 a6 a7 a8 R a10 a11 a12) (fun i R => zq_r1 G R i) 9 0 a9 (by omega) (fun a ha => absurd ha (by omega)) ?_ ?_
  · intro n R h
    exact pk_le 9 9 (fun _ => zq_cr65 (zq_r12 h) H) (fun z => absurd z (by omega))
  · intro n i R hi h hw
    refine pk_le 9 i (fun z => absurd z (by omega)) (fun _ => ?_)
    rw [nI_clamp (show i < 2 ^ 31 by omega)]
    refine ⟨pk_in i 9 hi, nm_e ?_⟩
    refine zq_cr19 hi hmt hbd (fun a ha => ?_) pk_us hw
    rw [pk_un (show a ≠ i by omega)]
    exact h a ha
/-! the greatest side -/
theorem zq_gs0 : ∀ i, i < 7 → (nI (2 ^ i - 1) ||| ((1 : Int32) <<< (nI i &&& 31))) = nI (2 ^ (i + 1) - 1) := by decide +kernel
theorem zq_gs1 : ∀ k, k < 7 → (((127 : Int32) >>> (nI k &&& 31)) &&& 1) = 1 := by decide +kernel
theorem zq_gside {post : Int32 → Prop} (H : ∀ r, ((∀ k, k < 7 → ¬ zq_bt (a9 k) 8) → r = 127) → (∀ k, k < 7 → zq_bt (a9 k) 8 → r ≠ 127) → post r) : wpX_greatestSide post (wf, fl, a1, a2, a3, a4, a5, a6, a7, a8, a9, a10, a11, a12) := by
  refine pk_loop (fun n i x => wX_greatestSide_4 post wf fl a1 a2 a3 a4 a5 a6 a7 a8 a9 a10 a11 a12 n x (nI i)) (fun i x => ((∀ k, k < i → ¬ zq_bt (a9 k) 8) → x = nI (2 ^ i - 1)) ∧ (∀ k, k < 7 → (i ≤ k ∨ zq_bt (a9 k) 8) → ¬ zq_bt x k)) 7 0 0 (by omega) ?_ ?_ ?_
  · refine ⟨fun _ => rfl, fun k hk _ => ?_⟩
    rw [zq_bt_iff _ (by omega)]
    unfold zq_tb
    simp
  · intro n x h
    refine pk_le 7 7 (fun _ => H x h.1 (fun k hk hb e => ?_)) (fun z => absurd z (by omega))
    refine h.2 k hk (Or.inr hb) ?_
    rw [e]
    exact zq_gs1 k hk
  · intro n i x hi h hw
    refine pk_le 7 i (fun z => absurd z (by omega)) (fun _ => ⟨pk_in i 9 (by omega), ?_⟩)
    rw [nI_clamp (show i < 2 ^ 31 by omega)]
    refine zq_in (b := 8) (fun hb => ?_) (fun hb => ?_)
    · refine br_f (by decide) (nm_r (nI_1 i) (hw x ⟨fun z => absurd hb (z i (by omega)), fun k hk g => h.2 k hk ?_⟩))
      rcases g with g | g
      · exact Or.inl (by omega)
      · exact Or.inr g
    · refine br_t rfl (nm_e (nm_r (nI_1 i) (hw _ ⟨fun z => ?_, fun k hk g => ?_⟩)))
      · rw [h.1 (fun k hk => z k (by omega))]
        exact zq_gs0 i hi
      · rw [zq_bt_or _ _ (by omega), zq_bt_sh (by omega) (by omega)]
        rintro (e | e)
        · refine h.2 k hk ?_ e
          rcases g with g | g
          · exact Or.inl (by omega)
          · exact Or.inr g
        · rcases g with g | g
          · omega
          · rw [← e] at g
            exact hb g
end
end
section
/-! the law's net -/
def zq_cp (u v w : Nat) : Nat → Nat → Nat := fun x y => if (x = u ∧ y = v) ∨ (x = v ∧ y = u) then w else 0
def zq_one (u up : Nat) : Nat → Nat := fun k => if k = u then up else 0
theorem zq_one_s (u up : Nat) : zq_one u up u = up := if_pos rfl
theorem zq_one_n {u up k : Nat} (h : k ≠ u) : zq_one u up k = 0 := if_neg h
theorem zq_cp_1 (u v w : Nat) : zq_cp u v w u v = w := if_pos (Or.inl ⟨rfl, rfl⟩)
theorem zq_cp_2 (u v w : Nat) : zq_cp u v w v u = w := if_pos (Or.inr ⟨rfl, rfl⟩)
theorem zq_cp_n {u v w x y : Nat} (h : ¬ ((x = u ∧ y = v) ∨ (x = v ∧ y = u))) : zq_cp u v w x y = 0 := if_neg h
def zq_env (u v w up dn : Nat) (X : Int32) (a1 a2 a3 a4 a5 : Nat → Int32) : Prop :=
  (∀ x y, x < 7 → y < 7 → a1 (x * 7 + y) = nI (zq_cp u v w x y)) ∧ (∀ k, k < 7 → zq_pull (a2 k) (a3 k) X (zq_one u up k)) ∧ (∀ k, k < 7 → zq_pull (a4 k) (a5 k) X (zq_one v dn k))
section
variable {cp : Nat → Nat → Nat} {sp tp : Nat → Nat} {x y : Nat}
theorem zq_G0_i (hx : x < 7) (hy : y < 7) : zq_G0 cp sp tp x y = cp x y := by
  unfold zq_G0
  rw [if_pos hx, if_pos hy]
theorem zq_G0_s (hy : y < 7) : zq_G0 cp sp tp 7 y = sp y := by
  unfold zq_G0
  rw [if_neg (by omega), if_pos ⟨rfl, hy⟩]
theorem zq_G0_t (hx : x < 7) : zq_G0 cp sp tp x 8 = tp x := by
  unfold zq_G0
  rw [if_pos hx, if_neg (by omega), if_pos rfl]
theorem zq_G0_7 (hx : x < 7) : zq_G0 cp sp tp x 7 = 0 := by
  unfold zq_G0
  rw [if_pos hx, if_neg (by omega), if_neg (by omega)]
theorem zq_G0_8 : zq_G0 cp sp tp 8 y = 0 := by
  unfold zq_G0
  rw [if_neg (by omega), if_neg (by omega)]
theorem zq_G0_o (hx : 7 ≤ x) (h : ¬ (x = 7 ∧ y < 7)) : zq_G0 cp sp tp x y = 0 := by
  unfold zq_G0
  rw [if_neg (by omega), if_neg h]
end
def zq_N (u v w up dn : Nat) : Nat → Nat → Nat := zq_G0 (zq_cp u v w) (zq_one u up) (zq_one v dn)
theorem zq_N_edge {u v w up dn : Nat} : ∀ x y, x < 9 → y < 9 → 0 < zq_N u v w up dn x y → zq_edge u v x y := by
  intro x y hx hy hg
  unfold zq_N at hg
  unfold zq_edge
  by_cases h1 : x < 7
  · by_cases h2 : y < 7
    · rw [zq_G0_i h1 h2] at hg
      by_cases h3 : (x = u ∧ y = v) ∨ (x = v ∧ y = u)
      · omega
      · rw [zq_cp_n h3] at hg
        omega
    · by_cases h3 : y = 8
      · rw [h3, zq_G0_t h1] at hg
        by_cases h4 : x = v
        · omega
        · rw [zq_one_n h4] at hg
          omega
      · rw [show y = 7 by omega, zq_G0_7 h1] at hg
        omega
  · by_cases h2 : x = 7 ∧ y < 7
    · rw [h2.1, zq_G0_s h2.2] at hg
      by_cases h3 : y = u
      · omega
      · rw [zq_one_n h3] at hg
        omega
    · rw [zq_G0_o (by omega) h2] at hg
      omega
theorem zq_N_pic {u v w up dn : Nat} (hu : u < 7) (hv : v < 7) (huv : u ≠ v) : zq_pic u v up 0 w 0 dn 0 (zq_N u v w up dn) := by
  refine ⟨zq_N_edge, ?_⟩
  unfold zq_N
  rw [zq_G0_s hu, zq_G0_s hv, zq_G0_7 hu, zq_G0_7 hv, zq_G0_i hu hv, zq_G0_i hv hu, zq_G0_t hu, zq_G0_t hv, zq_G0_8, zq_G0_8, zq_one_s, zq_one_s, zq_one_n (Ne.symm huv), zq_one_n huv, zq_cp_1, zq_cp_2]
  omega
/-- source pulls p and sink pulls q harder -/
def zq_ap (G : Nat → Nat → Nat) (p q : Nat) : Nat → Nat → Nat := zq_set (zq_set G 7 p (G 7 p + 100000)) q 8 (G q 8 + 100000)
theorem zq_ap_1 (G : Nat → Nat → Nat) {p q : Nat} (hp : p < 7) : zq_ap G p q 7 p = G 7 p + 100000 := by
  unfold zq_ap
  rw [zq_set_n _ (by omega), zq_set_s]
theorem zq_ap_2 (G : Nat → Nat → Nat) (p q : Nat) : zq_ap G p q q 8 = G q 8 + 100000 := zq_set_s _ _ _ _
theorem zq_ap_n (G : Nat → Nat → Nat) {p q x y : Nat} (h1 : ¬ (x = 7 ∧ y = p)) (h2 : ¬ (x = q ∧ y = 8)) : zq_ap G p q x y = G x y := by
  unfold zq_ap
  rw [zq_set_n _ h2, zq_set_n _ h1]
theorem zq_ap_edge {G : Nat → Nat → Nat} {u v p q : Nat} (h : ∀ x y, x < 9 → y < 9 → 0 < G x y → zq_edge u v x y) (h1 : zq_edge u v 7 p) (h2 : zq_edge u v q 8) : ∀ x y, x < 9 → y < 9 → 0 < zq_ap G p q x y → zq_edge u v x y := by
  intro x y hx hy hg
  by_cases e1 : x = 7 ∧ y = p
  · rw [e1.1, e1.2]
    exact h1
  by_cases e2 : x = q ∧ y = 8
  · rw [e2.1, e2.2]
    exact h2
  rw [zq_ap_n G e1 e2] at hg
  exact h x y hx hy hg
theorem zq_ap_pic1 {u v w up dn : Nat} (hu : u < 7) (hv : v < 7) (huv : u ≠ v) : zq_pic u v (up + 100000) 0 w 0 (dn + 100000) 0 (zq_ap (zq_N u v w up dn) u v) := by
  obtain ⟨h1, h2, h3, h4, h5, h6, h7, h8, h9⟩ := zq_N_pic (w := w) (up := up) (dn := dn) hu hv huv
  refine ⟨zq_ap_edge h1 (by unfold zq_edge; omega) (by unfold zq_edge; omega), ?_⟩
  rw [zq_ap_1 _ hu, zq_ap_2, zq_ap_n _ (show ¬ (u = 7 ∧ 7 = u) by omega) (by omega), zq_ap_n _ (show ¬ (7 = 7 ∧ v = u) by omega) (by omega), zq_ap_n _ (show ¬ (v = 7 ∧ 7 = u) by omega) (by omega), zq_ap_n _ (show ¬ (u = 7 ∧ v = u) by omega) (by omega), zq_ap_n _ (show ¬ (v = 7 ∧ u = u) by omega) (by omega), zq_ap_n _ (show ¬ (u = 7 ∧ 8 = u) by omega) (by omega), zq_ap_n _ (show ¬ (8 = 7 ∧ u = u) by omega) (by omega), zq_ap_n _ (show ¬ (8 = 7 ∧ v = u) by omega) (by omega)]
  clear h1
  omega
theorem zq_ap_pic2 {u v w up dn : Nat} (hu : u < 7) (hv : v < 7) (huv : u ≠ v) : zq_pic u v up 100000 w 100000 dn 0 (zq_ap (zq_N u v w up dn) v u) := by
  obtain ⟨h1, h2, h3, h4, h5, h6, h7, h8, h9⟩ := zq_N_pic (w := w) (up := up) (dn := dn) hu hv huv
  refine ⟨zq_ap_edge h1 (by unfold zq_edge; omega) (by unfold zq_edge; omega), ?_⟩
  rw [zq_ap_1 _ hv, zq_ap_2, zq_ap_n _ (show ¬ (7 = 7 ∧ u = v) by omega) (by omega), zq_ap_n _ (show ¬ (u = 7 ∧ 7 = v) by omega) (by omega), zq_ap_n _ (show ¬ (v = 7 ∧ 7 = v) by omega) (by omega), zq_ap_n _ (show ¬ (u = 7 ∧ v = v) by omega) (by omega), zq_ap_n _ (show ¬ (v = 7 ∧ u = v) by omega) (by omega), zq_ap_n _ (show ¬ (v = 7 ∧ 8 = v) by omega) (by omega), zq_ap_n _ (show ¬ (8 = 7 ∧ u = v) by omega) (by omega), zq_ap_n _ (show ¬ (8 = 7 ∧ v = v) by omega) (by omega)]
  clear h1
  omega
/-! what the end of a growth says -/
theorem zq_res1 {u v csu w cvt f : Nat} {G : Nat → Nat → Nat} (hu : u < 7) (hv : v < 7) (h : zq_pic u v csu 0 w 0 cvt f G) (hc : zq_cut G) : f = min (min csu w) cvt := by
  obtain ⟨h1, h2, h3, h4, h5, h6, h7, h8, h9⟩ := h
  obtain ⟨V, c1, c2, c3⟩ := hc
  have key : G 7 u = 0 ∨ G u v = 0 ∨ G v 8 = 0 := by
    by_cases k1 : G 7 u = 0
    · exact Or.inl k1
    by_cases k2 : G u v = 0
    · exact Or.inr (Or.inl k2)
    by_cases k3 : G v 8 = 0
    · exact Or.inr (Or.inr k3)
    have v1 := c3 7 u (by omega) (by omega) c1 (by omega)
    have v2 := c3 u v (by omega) (by omega) v1 (by omega)
    exact absurd (c3 v 8 (by omega) (by omega) v2 (by omega)) c2
  clear h1 c3
  omega
theorem zq_res2 {u v up w dn f : Nat} {G : Nat → Nat → Nat} (hu : u < 7) (hv : v < 7) (h : zq_pic u v up 100000 w 100000 dn f G) (b1 : up ≤ 140) (b2 : w ≤ 20) (b3 : dn ≤ 90) (hc : zq_cut G) : w ≤ f := by
  obtain ⟨h1, h2, h3, h4, h5, h6, h7, h8, h9⟩ := h
  obtain ⟨V, c1, c2, c3⟩ := hc
  have nu : ¬ V u := fun z => c2 (c3 u 8 (by omega) (by omega) z (by omega))
  have yv : V v := c3 7 v (by omega) (by omega) c1 (by omega)
  have k1 : ¬ 0 < G v u := fun z => nu (c3 v u (by omega) (by omega) yv z)
  clear h1 c3
  omega
/-! a state worked out for x -/
def zq_good (u v w up dn : Nat) (fl : Int32) (R : Nat → Int32) : Prop :=
  fl = nI (min (min up w) dn) ∧
  ((zq_bt (R 7 ||| R u) v ∨ zq_bt (R 7 ||| R u) 8) ↔ w ≠ min (min up w) dn) ∧
  ((zq_bt (R 7 ||| R v) u ∨ zq_bt (R 7 ||| R v) 8) ↔ up + dn + w ≠ min (min up w) dn) ∧
  (dn = min (min up w) dn → ∀ k, k < 7 → ¬ zq_bt (R k) 8) ∧ (dn ≠ min (min up w) dn → zq_bt (R v) 8)
theorem zq_good_of {u v w up dn f : Nat} {G : Nat → Nat → Nat} {R : Nat → Int32} (hu : u < 7) (hv : v < 7) (huv : u ≠ v) (h : zq_pic u v up 0 w 0 dn f G) (hc : zq_cut G) (hR : zq_r2 G R) : zq_good u v w up dn (nI f) R := by
  have hf := zq_res1 hu hv h hc
  obtain ⟨h1, h2, h3, h4, h5, h6, h7, h8, h9⟩ := h
  obtain ⟨r1, r2⟩ := hR
  have g1 : G 7 u = up - f := by omega
  have g2 : G u v = w - f := by omega
  have g3 : G v u = w + f := by omega
  have g4 : G v 8 = dn - f := by omega
  have g5 : G u 8 = 0 := by omega
  have g6 : G 7 v = 0 := by omega
  have f1 : f ≤ up := by omega
  have f2 : f ≤ w := by omega
  have f3 : f ≤ dn := by omega
  clear h2 h3 h4 h5 h6 h7 h8 h9
  unfold zq_good
  rw [← hf]
  refine ⟨rfl, ⟨fun hb hw => ?_, fun hw => ?_⟩, ⟨fun hb hw => ?_, fun hw => ?_⟩, fun hd k hk hb => ?_, fun hd => r1 v 8 (by omega) (by omega) (by omega)⟩
  · have cl := r2 (fun p => p ≠ v ∧ p ≠ 8) (fun a b ha hb ⟨c1, c2⟩ hg => by
      have e := h1 a b ha hb hg
      rcases e with ⟨e1, e2 | e2⟩ | ⟨e1, e2 | e2 | e2⟩ | ⟨e1, e2 | e2 | e2⟩ | ⟨e1, e2 | e2⟩ <;> (rw [e1, e2] at hg; show b ≠ v ∧ b ≠ 8; omega))
    rw [zq_bt_or _ _ (by omega), zq_bt_or _ _ (by omega)] at hb
    rcases hb with (z | z) | (z | z)
    · exact (cl 7 v (by omega) (by omega) ⟨by omega, by omega⟩ z).1 rfl
    · exact (cl u v (by omega) (by omega) ⟨by omega, by omega⟩ z).1 rfl
    · exact (cl 7 8 (by omega) (by omega) ⟨by omega, by omega⟩ z).2 rfl
    · exact (cl u 8 (by omega) (by omega) ⟨by omega, by omega⟩ z).2 rfl
  · rw [zq_bt_or _ _ (by omega)]
    exact Or.inl (Or.inr (r1 u v (by omega) (by omega) (by omega)))
  · have cl := r2 (fun p => p ≠ u ∧ p ≠ 8) (fun a b ha hb ⟨c1, c2⟩ hg => by
      have e := h1 a b ha hb hg
      rcases e with ⟨e1, e2 | e2⟩ | ⟨e1, e2 | e2 | e2⟩ | ⟨e1, e2 | e2 | e2⟩ | ⟨e1, e2 | e2⟩ <;> (rw [e1, e2] at hg; show b ≠ u ∧ b ≠ 8; omega))
    rw [zq_bt_or _ _ (by omega), zq_bt_or _ _ (by omega)] at hb
    rcases hb with (z | z) | (z | z)
    · exact (cl 7 u (by omega) (by omega) ⟨by omega, by omega⟩ z).1 rfl
    · exact (cl v u (by omega) (by omega) ⟨by omega, by omega⟩ z).1 rfl
    · exact (cl 7 8 (by omega) (by omega) ⟨by omega, by omega⟩ z).2 rfl
    · exact (cl v 8 (by omega) (by omega) ⟨by omega, by omega⟩ z).2 rfl
  · rw [zq_bt_or _ _ (by omega), zq_bt_or _ _ (by omega)]
    by_cases k1 : 0 < w
    · exact Or.inl (Or.inr (r1 v u (by omega) (by omega) (by omega)))
    by_cases k2 : 0 < up
    · exact Or.inl (Or.inl (r1 7 u (by omega) (by omega) (by omega)))
    · exact Or.inr (Or.inr (r1 v 8 (by omega) (by omega) (by omega)))
  · have cl := r2 (fun p => p ≠ 8) (fun a b ha hb c1 hg => by
      have c1 : a ≠ 8 := c1
      have e := h1 a b ha hb hg
      rcases e with ⟨e1, e2 | e2⟩ | ⟨e1, e2 | e2 | e2⟩ | ⟨e1, e2 | e2 | e2⟩ | ⟨e1, e2 | e2⟩ <;> (rw [e1, e2] at hg; show b ≠ 8; omega))
    exact cl k 8 (by omega) (by omega) (show k ≠ 8 by omega) hb rfl
end
section
/-! the class's calls -/
theorem zq_bad {post : Int32 → Prop} {p : Nat} (hp : p < 7) (H : post 0) : wpX_bad post () (nI p) :=
  br_f (nI_pos (by omega)) (br_t (nI_lt (b := 7) hp (by omega)) H)
theorem zq_badX {post : Int32 → Prop} {x : Nat} (hx : x ≤ 50) (H : post 0) : wpX_badX post () (nI x) :=
  br_f (nI_pos (by omega)) (br_t (nI_le (b := 50) hx (by omega)) H)
theorem zq_xm1 {x : Nat} (hx : x ≤ 50) : ¬ (-1 : Int32) = nI x := by
  intro e
  have h := nI_pos (n := x) (by omega)
  rw [← e] at h
  exact h (by decide)
section
variable {wf fl : Int32} {a1 a2 a3 a4 a5 a6 a7 a8 a9 a10 a11 a12 : Nat → Int32}
variable {u v w up dn x : Nat}
theorem zq_work {post : St2 → Prop} {X : Int32} (hu : u < 7) (hv : v < 7) (huv : u ≠ v) (b1 : up ≤ 140) (b2 : w ≤ 20) (b3 : dn ≤ 90) (he : zq_env u v w up dn X a1 a2 a3 a4 a5) (hg : wf = X → zq_good u v w up dn fl a9)
    (H : ∀ fl' s q c R, zq_good u v w up dn fl' R → post (X, fl', a1, a2, a3, a4, a5, s, q, c, R, a10, a11, a12)) : wpX_work post (wf, fl, a1, a2, a3, a4, a5, a6, a7, a8, a9, a10, a11, a12) X := by
  refine br_c (fun e => ?_) (fun _ => ?_)
  · subst e
    exact H fl a6 a7 a8 a9 (hg rfl)
  · refine zq_load he.1 he.2.1 he.2.2 (fun s hs => ?_)
    refine zq_grow (csu := up) (csv := 0) (w := w) (cut := 0) (cvt := dn) hu hv huv (by omega) (by omega) (by omega) (by omega) (by omega) (by omega) hs (zq_N_pic hu hv huv) (fun f G s q c hmt hp hc => ?_)
    refine zq_closeReach hmt (zq_pic_bd hp (by omega) (by omega) (by omega) (by omega) (by omega)) (fun R hR => ?_)
    exact H _ s q c R (zq_good_of hu hv huv hp hc hR)
theorem zq_least {post : Int32 → St2 → Prop} (hu : u < 7) (hv : v < 7) (huv : u ≠ v) (hx : x ≤ 50) (b1 : up ≤ 140) (b2 : w ≤ 20) (b3 : dn ≤ 90) (he : zq_env u v w up dn (nI x) a1 a2 a3 a4 a5) (hg : wf = nI x → zq_good u v w up dn fl a9)
    (H : ∀ fl' s q c R, zq_good u v w up dn fl' R → post fl' (nI x, fl', a1, a2, a3, a4, a5, s, q, c, R, a10, a11, a12)) : wpX_least post (wf, fl, a1, a2, a3, a4, a5, a6, a7, a8, a9, a10, a11, a12) (nI x) := by
  unfold wpX_least
  refine zq_badX hx ?_
  refine br_t rfl ?_
  exact zq_work hu hv huv b1 b2 b3 he hg (fun fl' s q c R h => H fl' s q c R h)
theorem zq_sepa {post : Int32 → St2 → Prop} {p q : Nat} (hp : p < 7) (hq : q < 7) (hpq : p ≠ q) (hu : u < 7) (hv : v < 7) (huv : u ≠ v) (hx : x ≤ 50) (b1 : up ≤ 140) (b2 : w ≤ 20) (b3 : dn ≤ 90) (he : zq_env u v w up dn (nI x) a1 a2 a3 a4 a5) (hg : wf = nI x → zq_good u v w up dn fl a9)
    (H0 : ∀ fl' s t c R, zq_good u v w up dn fl' R → (zq_bt (R 7 ||| R p) q ∨ zq_bt (R 7 ||| R p) 8) → post 0 (nI x, fl', a1, a2, a3, a4, a5, s, t, c, R, a10, a11, a12))
    (H1 : ∀ fl' s t c R, zq_good u v w up dn fl' R → ¬ (zq_bt (R 7 ||| R p) q ∨ zq_bt (R 7 ||| R p) 8) → post 1 (nI x, fl', a1, a2, a3, a4, a5, s, t, c, R, a10, a11, a12)) : wpX_separates post (wf, fl, a1, a2, a3, a4, a5, a6, a7, a8, a9, a10, a11, a12) (nI p) (nI q) (nI x) := by
  unfold wpX_separates
  refine zq_bad hp ?_
  refine br_t rfl ?_
  refine zq_bad hq ?_
  refine br_t rfl ?_
  refine pk_eq p q (fun z => absurd z hpq) (fun _ => ?_)
  refine zq_badX hx ?_
  refine br_t rfl ?_
  refine zq_work hu hv huv b1 b2 b3 he hg (fun fl' s t c R h => ?_)
  refine ⟨pk_in p 9 (by omega), ?_⟩
  intro y ey
  rw [nI_clamp (by omega)] at ey
  subst ey
  refine zq_in (fun hb => br_f (by decide) (H0 fl' s t c R h (Or.inl hb))) (fun hb => br_t rfl ?_)
  refine zq_in (b := 8) (fun hb8 => br_f (by decide) (H0 fl' s t c R h (Or.inr hb8))) (fun hb8 => br_t rfl ?_)
  exact H1 fl' s t c R h (fun z => Or.elim z hb hb8)
theorem zq_apart {post : Int32 → St2 → Prop} {X : Int32} {p q csu csv cut cvt : Nat} (hp : p < 7) (hq : q < 7) (hu : u < 7) (hv : v < 7) (huv : u ≠ v) (he : zq_env u v w up dn X a1 a2 a3 a4 a5)
    (b1 : csu ≤ 1000000) (b2 : csv ≤ 1000000) (b3 : w ≤ 1000000) (b4 : cut ≤ 1000000) (b5 : cvt ≤ 1000000) (hB : csu + cvt + w ≤ 900 ∨ csv + cut + w ≤ 900)
    (hpic : zq_pic u v csu csv w cut cvt 0 (zq_ap (zq_N u v w up dn) p q))
    (H : ∀ f G s t c, zq_pic u v csu csv w cut cvt f G → zq_cut G → post (nI f) (-1, nI f, a1, a2, a3, a4, a5, s, t, c, a9, a10, a11, a12)) : wpX_leastApart post (wf, fl, a1, a2, a3, a4, a5, a6, a7, a8, a9, a10, a11, a12) (nI p) (nI q) X := by
  refine zq_load he.1 he.2.1 he.2.2 (fun s hs => ?_)
  refine ⟨pk_in (63 + p) 81 (by omega) (zq_i63 p), pk_in (63 + p) 81 (by omega) (zq_i63 p), ?_⟩
  rw [zq_i63, nI_clamp (show 63 + p < 2 ^ 31 by omega)]
  refine nm_e ⟨pk_in (q * 9 + 8) 81 (by omega) (zq_i98 q), pk_in (q * 9 + 8) 81 (by omega) (zq_i98 q), ?_⟩
  rw [zq_i98, nI_clamp (show q * 9 + 8 < 2 ^ 31 by omega)]
  refine nm_e ?_
  have h1 : zq_mt (upd s (63 + p) (s (63 + p) + 100000)) (zq_set (zq_N u v w up dn) 7 p (zq_N u v w up dn 7 p + 100000)) := by
    refine zq_mt_set (x := 7) hs (by omega) ?_
    have e := hs 7 p (by omega) (by omega)
    have e' : s (63 + p) = nI (zq_N u v w up dn 7 p) := e
    rw [e', show (100000 : Int32) = nI 100000 from rfl, nI_add]
  have h2 : zq_mt (upd (upd s (63 + p) (s (63 + p) + 100000)) (q * 9 + 8) (upd s (63 + p) (s (63 + p) + 100000) (q * 9 + 8) + 100000)) (zq_ap (zq_N u v w up dn) p q) := by
    refine zq_mt_set h1 (by omega) ?_
    rw [h1 q 8 (by omega) (by omega), zq_set_n _ (by omega), show (100000 : Int32) = nI 100000 from rfl, nI_add]
  exact zq_grow hu hv huv b1 b2 b3 b4 b5 hB h2 hpic (fun f G s t c _ hp hc => H f G s t c hp hc)
theorem zq_spare68 {post : Int32 → St2 → Prop} (hu : u < 7) (hv : v < 7) (hc : ∀ x y, x < 7 → y < 7 → a1 (x * 7 + y) = nI (zq_cp u v w x y)) {l : Nat} (hl : l ≤ w) (b2 : w ≤ 20) (hf : fl = nI l)
    (H : post (nI (w - l)) (wf, fl, a1, a2, a3, a4, a5, a6, a7, a8, a9, a10, a11, a12)) : wX_spare_68 post (nI u) (nI v) (nI w) wf fl a1 a2 a3 a4 a5 a6 a7 a8 a9 a10 a11 a12 := by
  subst hf
  refine nm_r (pk_sub hl) ⟨pk_in (u * 7 + v) 49 (by omega) (zq_i7 u v), ?_⟩
  intro y ey
  rw [zq_i7, nI_clamp (by omega), hc u v hu hv, zq_cp_1] at ey
  subst ey
  refine pk_le w (w - l) (fun z => ?_) (fun _ => H)
  rw [show w - l = w by omega] at H
  exact H
theorem zq_spare {post : Int32 → St2 → Prop} (hu : u < 7) (hv : v < 7) (huv : u ≠ v) (hx : x ≤ 50) (b1 : up ≤ 140) (b2 : w ≤ 20) (b3 : dn ≤ 90) (he : zq_env u v w up dn (nI x) a1 a2 a3 a4 a5)
    (H : ∀ fl' s q c R, zq_good u v w up dn fl' R → post (nI (w - min (min up w) dn)) (nI x, fl', a1, a2, a3, a4, a5, s, q, c, R, a10, a11, a12)) : wpX_spare post (wf, fl, a1, a2, a3, a4, a5, a6, a7, a8, a9, a10, a11, a12) (nI u) (nI v) (nI x) := by
  unfold wpX_spare
  refine zq_bad hu ?_
  refine br_t rfl ?_
  refine zq_bad hv ?_
  refine br_t rfl ?_
  refine pk_eq u v (fun z => absurd z huv) (fun _ => ?_)
  refine zq_badX hx ?_
  refine br_t rfl ?_
  refine zq_apart hu hv hu hv huv he (by omega) (by omega) (by omega) (by omega) (by omega) (by omega) (zq_ap_pic1 hu hv huv) (fun f1 G1 s1 t1 c1 hp1 hc1 => ?_)
  refine zq_apart hv hu hu hv huv he (by omega) (by omega) (by omega) (by omega) (by omega) (by omega) (zq_ap_pic2 hu hv huv) (fun f2 G2 s2 t2 c2 hp2 hc2 => ?_)
  refine zq_work hu hv huv b1 b2 b3 he (fun z => absurd z (zq_xm1 hx)) (fun fl' s q c R hg => ?_)
  have e1 : f1 = w := by have := zq_res1 hu hv hp1 hc1; omega
  have e2 : w ≤ f2 := zq_res2 hu hv hp2 b1 b2 b3 hc2
  have e3 : f2 ≤ 900 := zq_pic_fb hp2 (by omega)
  refine pk_le f2 f1 (fun z => ?_) (fun z => ?_)
  · rw [show f2 = w by omega]
    exact zq_spare68 hu hv he.1 (by omega) b2 hg.1 (H fl' s q c R hg)
  · rw [e1]
    exact zq_spare68 hu hv he.1 (by omega) b2 hg.1 (H fl' s q c R hg)
theorem zq_ever {post : Int32 → St2 → Prop} (hu : u < 7) (hv : v < 7) (huv : u ≠ v) (hx : x ≤ 50) (b1 : up ≤ 140) (b2 : w ≤ 20) (b3 : dn ≤ 90) (he : zq_env u v w up dn (nI x) a1 a2 a3 a4 a5) (hg : wf = nI x → zq_good u v w up dn fl a9)
    (H : ∀ r fl' s q c R, zq_good u v w up dn fl' R → (dn = min (min up w) dn → r = 127) → (dn ≠ min (min up w) dn → r ≠ 127) → post r (nI x, fl', a1, a2, a3, a4, a5, s, q, c, R, a10, a11, a12)) : wpX_ever post (wf, fl, a1, a2, a3, a4, a5, a6, a7, a8, a9, a10, a11, a12) (nI x) := by
  unfold wpX_ever
  refine zq_badX hx ?_
  refine br_t rfl ?_
  refine zq_work hu hv huv b1 b2 b3 he hg (fun fl' s q c R h => ?_)
  exact zq_gside (fun r h1 h2 => H r fl' s q c R h (fun z => h1 (h.2.2.2.1 z)) (fun z => h2 v hv (h.2.2.2.2 z)))
end
end
section
/-! the cost of a side -/
section
variable {wf fl : Int32} {a1 a2 a3 a4 a5 a6 a7 a8 a9 a10 a11 a12 : Nat → Int32}
variable {post : Int32 → Prop} {X side : Int32} {cp : Nat → Nat → Nat} {sp tp : Nat → Nat}
theorem zq_c48 {J : Int32 → Int32 → Prop} {k : Nat} {r : Int32} {h : Nat → Nat} (hk : k < 7) (hr : (r = 1 ∧ zq_bt side k) ∨ (r = 0 ∧ ¬ zq_bt side k))
    (hc : ∀ x y, x < 7 → y < 7 → a1 (x * 7 + y) = nI (cp x y))
    (hE : ∀ j, j < k → (zq_bt side j ↔ zq_bt side k) → h (j + 1) = h j) (hD : ∀ j, j < k → ¬ (zq_bt side j ↔ zq_bt side k) → h (j + 1) = h j + cp j k)
    (H : J (nI (h k)) (nI (k + 1))) : ∃ n, wX_costOf_48 post J side X (nI k) r wf fl a1 a2 a3 a4 a5 a6 a7 a8 a9 a10 a11 a12 n (nI (h 0)) 0 := by
  refine pk_loop (σ := Unit) (fun n j _ => wX_costOf_48 post J side X (nI k) r wf fl a1 a2 a3 a4 a5 a6 a7 a8 a9 a10 a11 a12 n (nI (h j)) (nI j)) (fun _ _ => True) k 0 () (by omega) trivial ?_ ?_
  · intro n _ _
    exact pk_le k k (fun _ => nm_r (nI_1 k) H) (fun z => absurd z (by omega))
  · intro n j _ hj _ hw
    have hw : wX_costOf_48 post J side X (nI k) r wf fl a1 a2 a3 a4 a5 a6 a7 a8 a9 a10 a11 a12 n (nI (h (j + 1))) (nI (j + 1)) := hw () trivial
    have eq : (zq_bt side j ↔ zq_bt side k) → wX_costOf_48 post J side X (nI k) r wf fl a1 a2 a3 a4 a5 a6 a7 a8 a9 a10 a11 a12 n (nI (h j)) (nI (j + 1)) := fun z => by
      rw [hE j hj z] at hw
      exact hw
    have ne : ¬ (zq_bt side j ↔ zq_bt side k) → (vp_in ((nI j * 7) + nI k) 49 ∧ (∀ y : Int32, y = nI (h j) + (a1 ((nI j * 7) + nI k).toNatClampNeg) → (∀ z : Int32, z = nI j + 1 → (wX_costOf_48 post J side X (nI k) r wf fl a1 a2 a3 a4 a5 a6 a7 a8 a9 a10 a11 a12 n y z)))) := fun z => by
      refine ⟨pk_in (j * 7 + k) 49 (by omega) (zq_i7 j k), ?_⟩
      rw [zq_i7, nI_clamp (by omega), hc j k (by omega) hk, nI_add, ← hD j hj z, nI_1]
      exact nm_e (nm_e hw)
    refine pk_le k j (fun z => absurd z (by omega)) (fun _ => zq_in (fun hb => ?_) (fun hb => ?_))
    · rcases hr with ⟨rfl, hr⟩ | ⟨rfl, hr⟩
      · exact br_t rfl (nm_r (nI_1 j) (eq ⟨fun _ => hr, fun _ => hb⟩))
      · exact br_f (by decide) (ne (fun z => hr (z.mp hb)))
    · rcases hr with ⟨rfl, hr⟩ | ⟨rfl, hr⟩
      · exact br_f (by decide) (ne (fun z => hb (z.mpr hr)))
      · exact br_t rfl (nm_r (nI_1 j) (eq ⟨fun z => absurd z hb, fun z => absurd z hr⟩))
theorem zq_costOf {F : Nat → Nat} {h : Nat → Nat → Nat}
    (hc : ∀ x y, x < 7 → y < 7 → a1 (x * 7 + y) = nI (cp x y)) (hs : ∀ k, k < 7 → zq_pull (a2 k) (a3 k) X (sp k)) (ht : ∀ k, k < 7 → zq_pull (a4 k) (a5 k) X (tp k))
    (h0 : F 0 = 0) (hS : ∀ k, k < 7 → ¬ zq_bt side k → h k 0 = F k + sp k) (hT : ∀ k, k < 7 → zq_bt side k → h k 0 = F k + tp k)
    (hE : ∀ k j, k < 7 → j < k → (zq_bt side j ↔ zq_bt side k) → h k (j + 1) = h k j) (hD : ∀ k j, k < 7 → j < k → ¬ (zq_bt side j ↔ zq_bt side k) → h k (j + 1) = h k j + cp j k)
    (hF : ∀ k, k < 7 → h k k = F (k + 1)) (H : post (nI (F 7))) : wpX_costOf post (wf, fl, a1, a2, a3, a4, a5, a6, a7, a8, a9, a10, a11, a12) side X := by
  have main : ∃ n, wX_costOf_5 post side X wf fl a1 a2 a3 a4 a5 a6 a7 a8 a9 a10 a11 a12 n (nI (F 0)) (nI 0) := by
    refine pk_loop (σ := Unit) (fun n k _ => wX_costOf_5 post side X wf fl a1 a2 a3 a4 a5 a6 a7 a8 a9 a10 a11 a12 n (nI (F k)) (nI k)) (fun _ _ => True) 7 0 () (by omega) trivial ?_ ?_
    · intro n _ _
      exact pk_le 7 7 (fun _ => H) (fun z => absurd z (by omega))
    · intro n k _ hk _ hw
      have hw : wX_costOf_5 post side X wf fl a1 a2 a3 a4 a5 a6 a7 a8 a9 a10 a11 a12 n (nI (F (k + 1))) (nI (k + 1)) := hw () trivial
      rw [← hF k hk] at hw
      refine pk_le 7 k (fun z => absurd z (by omega)) (fun _ => zq_in (fun hb => ?_) (fun hb => ?_))
      · refine br_f (by decide) (zq_tp hk (ht k hk) ?_)
        refine nm_r (e' := nI (h k 0)) (by rw [nI_add, hT k hk hb]) ?_
        exact zq_c48 hk (Or.inl ⟨rfl, hb⟩) hc (fun j => hE k j hk) (fun j => hD k j hk) hw
      · refine br_t rfl (zq_sp hk (hs k hk) ?_)
        refine nm_r (e' := nI (h k 0)) (by rw [nI_add, hS k hk hb]) ?_
        exact zq_c48 hk (Or.inr ⟨rfl, hb⟩) hc (fun j => hE k j hk) (fun j => hD k j hk) hw
  rw [h0] at main
  exact main
variable {u v w up dn x : Nat}
theorem zq_cost1 (hu : u < 7) (hv : v < 7) (huv : u ≠ v) (hx : x ≤ 50) (he : zq_env u v w up dn (nI x) a1 a2 a3 a4 a5) (H : post (nI w)) : wpX_cost post (wf, fl, a1, a2, a3, a4, a5, a6, a7, a8, a9, a10, a11, a12) ((1 : Int32) <<< (nI u &&& 31)) (nI x) := by
  unfold wpX_cost
  refine zq_badX hx ?_
  refine br_t rfl ?_
  have bit : ∀ k, k < 7 → (zq_bt ((1 : Int32) <<< (nI u &&& 31)) k ↔ u = k) := fun k hk => zq_bt_sh (by omega) (by omega)
  refine zq_costOf (F := fun k => if u < k ∧ v < k then w else 0) (h := fun k j => (if u < k ∧ v < k then w else 0) + (if (k = v ∧ u < j) ∨ (k = u ∧ v < j) then w else 0)) he.1 he.2.1 he.2.2 ?_ ?_ ?_ ?_ ?_ ?_ ?_
  · exact if_neg (by omega)
  · intro k hk hb
    rw [bit k hk] at hb
    show _ = _ + zq_one u up k
    rw [zq_one_n (fun e => hb e.symm), if_neg (show ¬ ((k = v ∧ u < 0) ∨ (k = u ∧ v < 0)) by omega)]
  · intro k hk hb
    rw [bit k hk] at hb
    show _ = _ + zq_one v dn k
    rw [zq_one_n (by omega), if_neg (show ¬ ((k = v ∧ u < 0) ∨ (k = u ∧ v < 0)) by omega)]
  · intro k j hk hj hb
    rw [bit k hk, bit j (by omega)] at hb
    exact congrArg (fun z => (if u < k ∧ v < k then w else 0) + z) (ite_congr (propext (by omega)) (fun _ => rfl) (fun _ => rfl))
  · intro k j hk hj hb
    rw [bit k hk, bit j (by omega)] at hb
    show (if u < k ∧ v < k then w else 0) + (if (k = v ∧ u < j + 1) ∨ (k = u ∧ v < j + 1) then w else 0) = (if u < k ∧ v < k then w else 0) + (if (k = v ∧ u < j) ∨ (k = u ∧ v < j) then w else 0) + zq_cp u v w j k
    unfold zq_cp
    generalize (if u < k ∧ v < k then w else 0) = z0
    by_cases e : (j = u ∧ k = v) ∨ (j = v ∧ k = u)
    · rw [if_pos (show (k = v ∧ u < j + 1) ∨ (k = u ∧ v < j + 1) by omega), if_neg (show ¬ ((k = v ∧ u < j) ∨ (k = u ∧ v < j)) by omega), if_pos e]
      omega
    · rw [if_neg e]
      by_cases e2 : (k = v ∧ u < j) ∨ (k = u ∧ v < j)
      · rw [if_pos e2, if_pos (by omega)]
        rfl
      · rw [if_neg e2, if_neg (by omega)]
  · intro k hk
    show (if u < k ∧ v < k then w else 0) + (if (k = v ∧ u < k) ∨ (k = u ∧ v < k) then w else 0) = if u < k + 1 ∧ v < k + 1 then w else 0
    by_cases e : u < k ∧ v < k
    · rw [if_pos e, if_neg (by omega), if_pos (by omega)]
      rfl
    · by_cases e2 : (k = v ∧ u < k) ∨ (k = u ∧ v < k)
      · rw [if_neg e, if_pos e2, if_pos (by omega)]
        omega
      · rw [if_neg e, if_neg e2, if_neg (by omega)]
  · show post (nI (if u < 7 ∧ v < 7 then w else 0))
    rw [if_pos ⟨hu, hv⟩]
    exact H
theorem zq_cost2 (hu : u < 7) (hv : v < 7) (huv : u ≠ v) (hx : x ≤ 50) (he : zq_env u v w up dn (nI x) a1 a2 a3 a4 a5) (H : post (nI dn)) : wpX_cost post (wf, fl, a1, a2, a3, a4, a5, a6, a7, a8, a9, a10, a11, a12) (((1 : Int32) <<< (nI u &&& 31)) ||| ((1 : Int32) <<< (nI v &&& 31))) (nI x) := by
  unfold wpX_cost
  refine zq_badX hx ?_
  refine br_t rfl ?_
  have bit : ∀ k, k < 7 → (zq_bt (((1 : Int32) <<< (nI u &&& 31)) ||| ((1 : Int32) <<< (nI v &&& 31))) k ↔ (u = k ∨ v = k)) := fun k hk => by
    rw [zq_bt_or _ _ (by omega), zq_bt_sh (by omega) (by omega), zq_bt_sh (by omega) (by omega)]
  refine zq_costOf (F := fun k => if v < k then dn else 0) (h := fun k _ => (if v < k then dn else 0) + (if k = v then dn else 0)) he.1 he.2.1 he.2.2 ?_ ?_ ?_ ?_ ?_ ?_ ?_
  · exact if_neg (by omega)
  · intro k hk hb
    rw [bit k hk] at hb
    show _ = _ + zq_one u up k
    rw [zq_one_n (by omega), if_neg (show ¬ k = v by omega)]
  · intro k hk hb
    rfl
  · intro k j hk hj hb
    rfl
  · intro k j hk hj hb
    rw [bit k hk, bit j (by omega)] at hb
    show (if v < k then dn else 0) + (if k = v then dn else 0) = (if v < k then dn else 0) + (if k = v then dn else 0) + zq_cp u v w j k
    rw [zq_cp_n (by omega)]
    rfl
  · intro k hk
    show (if v < k then dn else 0) + (if k = v then dn else 0) = if v < k + 1 then dn else 0
    by_cases e : v < k
    · rw [if_pos e, if_neg (by omega), if_pos (by omega)]
      rfl
    · by_cases e2 : k = v
      · rw [if_neg e, if_pos e2, if_pos (by omega)]
        omega
      · rw [if_neg e, if_neg e2, if_neg (by omega)]
  · show post (nI (if v < 7 then dn else 0))
    rw [if_pos hv]
    exact H
end
end
section
/-! numbers of the law -/
theorem zq_rm (p : Int32) {d : Nat} (h0 : 0 < d) (hd : d < 2 ^ 31) : ∃ j, j < d ∧ (p &&& 1023) - (p &&& 1023) / nI d * nI d = nI j := by
  obtain ⟨j, hj, e⟩ := pk_andE p (m := 1023) 10 (by decide)
  rw [e, pk_rem (by omega) h0 hd]
  exact ⟨j % d, Nat.mod_lt _ h0, rfl⟩
theorem zq_b5 : ∀ j, j < 5 → ¬ (nI j - 2) < (-2) ∧ (nI j - 2) ≤ 2 := by decide +kernel
theorem zq_upv {s j x : Nat} (hs : s ≤ 40) (hj : j < 5) (hx : x ≤ 50) : ∃ up, up ≤ 140 ∧ zq_pull (nI s) (nI j - 2) (nI x) up ∧ (0 ≤ nI s + (nI j - 2) * nI x → nI s + (nI j - 2) * nI x = nI up) ∧ (¬ 0 ≤ nI s + (nI j - 2) * nI x → up = 0) := by
  have e : nI s + (nI j - 2) * nI x = nI (s + j * x) - nI (2 * x) := by
    rw [← nI_add, ← pk_mul, ← pk_mul, show nI 2 = (2 : Int32) from rfl]
    grind
  have jx : j * x ≤ 4 * x := Nat.mul_le_mul_right x (by omega)
  unfold zq_pull
  rw [e]
  generalize j * x = m at jx
  have eI : (nI (s + m) - nI (2 * x)).toInt = ((s + m : Nat) : Int) - ((2 * x : Nat) : Int) := pk_sub_toInt (by omega) (by omega)
  refine ⟨s + m - 2 * x, by omega, ⟨?_, ?_⟩, ?_, ?_⟩
  · intro h
    rw [Int32.le_iff_toInt_le, eI] at h
    have z : (0 : Int32).toInt = 0 := rfl
    omega
  · intro h
    rw [Int32.le_iff_toInt_le, eI] at h
    have z : (0 : Int32).toInt = 0 := rfl
    exact pk_sub (by omega)
  · intro h
    rw [Int32.le_iff_toInt_le, eI] at h
    have z : (0 : Int32).toInt = 0 := rfl
    exact pk_sub (by omega)
  · intro h
    rw [Int32.le_iff_toInt_le, eI] at h
    have z : (0 : Int32).toInt = 0 := rfl
    omega
theorem zq_pull0 (X : Int32) : zq_pull 0 0 X 0 := by
  unfold zq_pull
  rw [Int32.zero_mul]
  exact ⟨fun _ => rfl, fun z => absurd (by decide) z⟩
theorem zq_pull1 {t x : Nat} (ht : t ≤ 40) (hx : x ≤ 50) : zq_pull (nI t) 1 (nI x) (t + x) := by
  unfold zq_pull
  rw [Int32.one_mul, nI_add]
  refine ⟨fun z => ?_, fun _ => rfl⟩
  rw [← nI_0, nI_leI (by omega) (by omega)] at z
  omega
theorem zq_env_law {u v w up s j t x : Nat} (hu : u < 7) (hv : v < 7) (huv : u ≠ v) (ht : t ≤ 40) (hx : x ≤ 50) (hp : zq_pull (nI s) (nI j - 2) (nI x) up) :
    zq_env u v w up (t + x) (nI x) (upd (upd (fun _ => 0) (v * 7 + u) (nI w)) (u * 7 + v) (nI w)) (upd (fun _ => 0) u (nI s)) (upd (fun _ => 0) u (nI j - 2)) (upd (fun _ => 0) v (nI t)) (upd (fun _ => 0) v 1) := by
  refine ⟨fun p q hp hq => ?_, fun k hk => ?_, fun k hk => ?_⟩
  · unfold zq_cp
    by_cases e1 : p = u ∧ q = v
    · rw [e1.1, e1.2, pk_us, if_pos (Or.inl ⟨rfl, rfl⟩)]
    · rw [pk_un (by omega)]
      by_cases e2 : p = v ∧ q = u
      · rw [e2.1, e2.2, pk_us, if_pos (Or.inr ⟨rfl, rfl⟩)]
      · rw [pk_un (by omega), if_neg (by omega)]
        rfl
  · by_cases e : k = u
    · rw [e, pk_us, pk_us, zq_one_s]
      exact hp
    · rw [pk_un e, pk_un e, zq_one_n e]
      exact zq_pull0 _
  · by_cases e : k = v
    · rw [e, pk_us, pk_us, zq_one_s]
      exact zq_pull1 ht hx
    · rw [pk_un e, pk_un e, zq_one_n e]
      exact zq_pull0 _
/-! the making of the net -/
theorem zq_badPull {post : Int32 → Prop} {s : Nat} {b : Int32} (hs : s ≤ 40) (h1 : ¬ b < (-2)) (h2 : b ≤ 2) (H : post 0) : wpX_badPull post () (nI s) b :=
  br_f (nI_pos (by omega)) (br_f (nI_nlt (a := 40) hs (by omega)) (br_f h1 (br_t h2 H)))
theorem zq_init {post : St2 → Prop} {wf fl : Int32} (H : post (-1, fl, (fun _ => 0), (fun _ => 0), (fun _ => 0), (fun _ => 0), (fun _ => 0), (fun _ => 0), (fun _ => 0), (fun _ => 0), (fun _ => 0), (fun _ => 0), (fun _ => 0), (fun _ => 0))) : wpX_init post 12 212 (wf, fl) :=
  ⟨by omega, by omega, by omega, by omega, by omega, by omega, by omega, by omega, by omega, by omega, by omega, by omega, by omega, by omega, by omega, by omega, by omega, by omega, by omega, by omega, by omega, by omega, by omega, by omega, H⟩
section
variable {wf fl : Int32} {a1 a2 a3 a4 a5 a6 a7 a8 a9 a10 a11 a12 : Nat → Int32}
variable {post : Int32 → St2 → Prop} {p s : Nat} {b : Int32}
theorem zq_toSource (hp : p < 7) (hs : s ≤ 40) (h1 : ¬ b < (-2)) (h2 : b ≤ 2) (H : post 0 (-1, fl, a1, upd a2 p (nI s), upd a3 p b, a4, a5, a6, a7, a8, a9, a10, a11, a12)) : wpX_toSource post (wf, fl, a1, a2, a3, a4, a5, a6, a7, a8, a9, a10, a11, a12) (nI p) (nI s) b := by
  unfold wpX_toSource
  refine zq_bad hp ?_
  refine br_t rfl ?_
  refine zq_badPull hs h1 h2 ?_
  refine br_t rfl ?_
  rw [nI_clamp (by omega)]
  exact ⟨pk_in p 7 hp, nm_e ⟨pk_in p 7 hp, nm_e H⟩⟩
theorem zq_toSink (hp : p < 7) (hs : s ≤ 40) (h1 : ¬ b < (-2)) (h2 : b ≤ 2) (H : post 0 (-1, fl, a1, a2, a3, upd a4 p (nI s), upd a5 p b, a6, a7, a8, a9, a10, a11, a12)) : wpX_toSink post (wf, fl, a1, a2, a3, a4, a5, a6, a7, a8, a9, a10, a11, a12) (nI p) (nI s) b := by
  unfold wpX_toSink
  refine zq_bad hp ?_
  refine br_t rfl ?_
  refine zq_badPull hs h1 h2 ?_
  refine br_t rfl ?_
  rw [nI_clamp (by omega)]
  exact ⟨pk_in p 7 hp, nm_e ⟨pk_in p 7 hp, nm_e H⟩⟩
theorem zq_link {q w : Nat} (hp : p < 7) (hq : q < 7) (hpq : p ≠ q) (hw : w ≤ 20) (H : post (a1 (p * 7 + q)) (-1, fl, upd (upd a1 (p * 7 + q) (nI w)) (q * 7 + p) (nI w), a2, a3, a4, a5, a6, a7, a8, a9, a10, a11, a12)) : wpX_link post (wf, fl, a1, a2, a3, a4, a5, a6, a7, a8, a9, a10, a11, a12) (nI p) (nI q) (nI w) := by
  unfold wpX_link
  refine zq_bad hp ?_
  refine br_t rfl ?_
  refine zq_bad hq ?_
  refine br_t rfl ?_
  refine pk_eq p q (fun z => absurd z hpq) (fun _ => ?_)
  refine br_f (nI_pos (by omega)) ?_
  refine br_t (nI_le (b := 20) hw (by omega)) ?_
  rw [zq_i7, zq_i7, nI_clamp (show p * 7 + q < 2 ^ 31 by omega), nI_clamp (show q * 7 + p < 2 ^ 31 by omega)]
  exact ⟨pk_in (p * 7 + q) 49 (by omega), nm_e ⟨pk_in (p * 7 + q) 49 (by omega), nm_e ⟨pk_in (q * 7 + p) 49 (by omega), nm_e H⟩⟩⟩
end
/-! the law's checks -/
section
variable {wf fl : Int32} {a1 a2 a3 a4 a5 a6 a7 a8 a9 a10 a11 a12 : Nat → Int32}
variable {post : Int32 → St0 → Prop} {mc ms kc ks u v w up dn x l : Nat}
theorem zq_344 (H : post 1 ()) {r : Int32} (hd : dn < 2 ^ 31) (hl : l < 2 ^ 31) (h1 : dn = l → r = 127) (h0 : dn ≠ l → r ≠ 127) : (r = 127 → wL_lawOf_344 post mc ms (nI dn) (nI l) 1 kc ks) ∧ (¬ r = 127 → wL_lawOf_344 post mc ms (nI dn) (nI l) 0 kc ks) := by
  by_cases e : dn = l
  · exact br_t (h1 e) (br_t (by rw [e]) (br_t rfl H))
  · exact br_f (h0 e) (br_f (fun z => e ((nI_eq hd hl).mp z)) (br_t rfl H))
theorem zq_303 (H : post 1 ()) {z : Int32} (hu : u < 7) (hv : v < 7) (huv : u ≠ v) (hx : x ≤ 50) (b1 : up ≤ 140) (b2 : w ≤ 20) (b3 : dn ≤ 90) (he : zq_env u v w up dn (nI x) a1 a2 a3 a4 a5) (hl : l = min (min up w) dn) :
    wL_lawOf_303 post mc ms (nI u) (nI v) (nI w) (nI x) (nI dn) (nI l) z z kc ks wf fl a1 a2 a3 a4 a5 a6 a7 a8 a9 a10 a11 a12 := by
  unfold wL_lawOf_303
  refine br_t rfl ?_
  refine zq_spare hu hv huv hx b1 b2 b3 he (fun fl1 s1 q1 c1 R1 g1 => ?_)
  refine br_t (by rw [pk_sub (by omega), hl]) ?_
  refine zq_ever hu hv huv hx b1 b2 b3 he (fun _ => g1) (fun r fl2 s2 q2 c2 R2 g2 h1 h0 => ?_)
  rw [← hl] at h1 h0
  exact zq_344 H (by omega) (by omega) h1 h0
theorem zq_271 (H : post 1 ()) {z : Int32} (hu : u < 7) (hv : v < 7) (huv : u ≠ v) (hx : x ≤ 50) (b1 : up ≤ 140) (b2 : w ≤ 20) (b3 : dn ≤ 90) (he : zq_env u v w up dn (nI x) a1 a2 a3 a4 a5) (hl : l = min (min up w) dn) (hg : zq_good u v w up dn fl a9) :
    wL_lawOf_271 post mc ms (nI u) (nI v) (nI w) (nI x) (nI up) (nI dn) (nI l) z z kc ks (nI x) fl a1 a2 a3 a4 a5 a6 a7 a8 a9 a10 a11 a12 := by
  unfold wL_lawOf_271
  refine br_t rfl ?_
  have e : nI up + nI dn + nI w = nI l ↔ up + dn + w = l := by
    rw [nI_add, nI_add, nI_eq (by omega) (by omega)]
  refine zq_sepa hv hu (Ne.symm huv) hu hv huv hx b1 b2 b3 he (fun _ => hg) (fun fl2 s2 t2 c2 R2 g2 hb => ?_) (fun fl2 s2 t2 c2 R2 g2 hb => ?_)
  · have k := g2.2.2.1.mp hb
    rw [← hl] at k
    exact br_f (fun z => k (e.mp z)) (zq_303 H hu hv huv hx b1 b2 b3 he hl)
  · refine br_t (e.mpr ?_) (zq_303 H hu hv huv hx b1 b2 b3 he hl)
    rw [hl]
    exact Classical.byContradiction (fun k => hb (g2.2.2.1.mpr k))
theorem zq_197 (H : post 1 ()) (hu : u < 7) (hv : v < 7) (huv : u ≠ v) (hx : x ≤ 50) (b1 : up ≤ 140) (b2 : w ≤ 20) (b3 : dn ≤ 90) (he : zq_env u v w up dn (nI x) a1 a2 a3 a4 a5) (hl : l = min (min up w) dn) :
    wL_lawOf_197 post mc ms (nI u) (nI v) (nI w) (nI x) (nI up) (nI dn) (nI l) kc ks (-1) fl a1 a2 a3 a4 a5 a6 a7 a8 a9 a10 a11 a12 := by
  unfold wL_lawOf_197
  refine zq_least hu hv huv hx b1 b2 b3 he (fun z => absurd z (zq_xm1 hx)) (fun fl1 s1 q1 c1 R1 g1 => ?_)
  refine br_t (by rw [hl]; exact g1.1) ?_
  refine zq_cost1 hu hv huv hx he ?_
  refine br_t rfl ?_
  refine zq_cost2 hu hv huv hx he ?_
  refine br_t rfl ?_
  refine zq_sepa hu hv huv hu hv huv hx b1 b2 b3 he (fun _ => g1) (fun fl2 s2 t2 c2 R2 g2 hb => ?_) (fun fl2 s2 t2 c2 R2 g2 hb => ?_)
  · have k := g2.2.1.mp hb
    rw [← hl] at k
    exact br_f (fun z => k ((nI_eq (by omega) (by omega)).mp z)) (zq_271 H hu hv huv hx b1 b2 b3 he hl g2)
  · refine br_t (congrArg nI ?_) (zq_271 H hu hv huv hx b1 b2 b3 he hl g2)
    rw [hl]
    exact Classical.byContradiction (fun k => hb (g2.2.1.mpr k))
theorem zq_161 {t : Nat} (H : post 1 ()) (hu : u < 7) (hv : v < 7) (huv : u ≠ v) (hx : x ≤ 50) (ht : t ≤ 40) (b1 : up ≤ 140) (b2 : w ≤ 20) (he : zq_env u v w up (t + x) (nI x) a1 a2 a3 a4 a5) :
    wL_lawOf_161 post mc ms (nI u) (nI v) (nI t) (nI w) (nI x) (nI up) kc ks (-1) fl a1 a2 a3 a4 a5 a6 a7 a8 a9 a10 a11 a12 := by
  refine nm_r (nI_add t x) ?_
  refine pk_le w up (fun z => ?_) (fun z => ?_)
  · refine pk_le w (t + x) (fun z => ?_) (fun z => ?_)
    · exact zq_197 H hu hv huv hx b1 b2 (by omega) he (by omega)
    · exact zq_197 H hu hv huv hx b1 b2 (by omega) he (by omega)
  · refine pk_le up (t + x) (fun z => ?_) (fun z => ?_)
    · exact zq_197 H hu hv huv hx b1 b2 (by omega) he (by omega)
    · exact zq_197 H hu hv huv hx b1 b2 (by omega) he (by omega)
end
theorem zq_lawOf {post : Int32 → St0 → Prop} {p0 p1 p2 p3 p4 : Int32} (H : post 1 ()) : wpL_lawOf post 13 226 () p0 p1 p2 p3 p4 := by
  refine ⟨by omega, by omega, 12, 212, by omega, by omega, zq_init ?_⟩
  obtain ⟨u, hu, eu⟩ := zq_rm p0 (d := 7) (by omega) (by omega)
  obtain ⟨i, hi, ei⟩ := zq_rm (p0 >>> ((10 : Int32) &&& 31)) (d := 6) (by omega) (by omega)
  obtain ⟨s, hs, es⟩ := zq_rm p1 (d := 41) (by omega) (by omega)
  obtain ⟨j, hj, ej⟩ := zq_rm (p1 >>> ((10 : Int32) &&& 31)) (d := 5) (by omega) (by omega)
  obtain ⟨t, ht, et⟩ := zq_rm p2 (d := 41) (by omega) (by omega)
  obtain ⟨w, hw, ew⟩ := zq_rm p3 (d := 21) (by omega) (by omega)
  obtain ⟨x, hx, ex⟩ := zq_rm p4 (d := 51) (by omega) (by omega)
  refine ⟨by decide, nm_r eu ⟨by decide, by decide, ?_⟩⟩
  have ei' : ((p0 >>> ((10 : Int32) &&& 31)) &&& 1023) - ((p0 >>> ((10 : Int32) &&& 31)) &&& 1023) / 6 * 6 = nI i := ei
  have ej' : ((p1 >>> ((10 : Int32) &&& 31)) &&& 1023) - ((p1 >>> ((10 : Int32) &&& 31)) &&& 1023) / 5 * 5 = nI j := ej
  rw [ei', nI_1, nI_add, ej']
  have hv : (u + 1 + i) % 7 < 7 := Nat.mod_lt _ (by omega)
  have huv : u ≠ (u + 1 + i) % 7 := by omega
  refine nm_r (pk_rem (a := u + 1 + i) (d := 7) (by omega) (by omega) (by omega)) ?_
  generalize (u + 1 + i) % 7 = v at hv huv
  refine ⟨by decide, nm_r es ⟨by decide, nm_e ⟨by decide, nm_r et ⟨by decide, nm_r ew ⟨by decide, nm_r ex ?_⟩⟩⟩⟩⟩
  obtain ⟨k1, k2⟩ := zq_b5 j hj
  refine zq_toSource hu (by omega) k1 k2 ?_
  refine br_t rfl ?_
  refine zq_toSink hv (by omega) (by decide) (by decide) ?_
  refine br_t rfl ?_
  refine zq_link hv hu (Ne.symm huv) (by omega) ?_
  refine br_t rfl ?_
  obtain ⟨up, hup, hp, e1, e0⟩ := zq_upv (s := s) (j := j) (x := x) (by omega) hj (by omega)
  have he := zq_env_law (w := w) (t := t) hu hv huv (by omega) (by omega) hp
  refine br_c (fun z => ?_) (fun z => ?_)
  · rw [e1 z]
    exact zq_161 H hu hv huv (by omega) (by omega) hup (by omega) he
  · have ez := e0 z
    subst ez
    exact zq_161 H hu hv huv (by omega) (by omega) hup (by omega) he
theorem zq_cell {post : Int32 → Prop} {L k : Nat} {xs : Nat → Int32} (hL : L ≤ 5) (hk : k ≤ 4) (H : ∀ r, post r) : wpL_cellAt post L xs () (nI k) :=
  pk_le L k (fun _ => H 0) (fun z => ⟨pk_in k L z, H _⟩)
theorem i_vc (xs : Nat → Int32) (L : Nat) (hL : L ≤ 5) : wpL_law (fun r => r = 1) L xs := by
  unfold wpL_law
  refine zq_cell (k := 0) hL (by omega) (fun r1 => ?_)
  refine zq_cell (k := 1) hL (by omega) (fun r2 => ?_)
  refine zq_cell (k := 2) hL (by omega) (fun r3 => ?_)
  refine zq_cell (k := 3) hL (by omega) (fun r4 => ?_)
  refine zq_cell (k := 4) hL (by omega) (fun r5 => ?_)
  exact ⟨13, 226, by omega, by omega, zq_lawOf rfl⟩
end
