section
/-! basics: indices, the colour of a pair, points in use, the classes' regrouping -/
section
variable {gX gY pn : Int32} {bs : Int64} {hb : Int32} {a1 : Nat → Int32} {a2 : Nat → Int32} {a3 : Nat → Int32} {a4 : Nat → Int32} {a5 : Nat → Int32} {a6 : Nat → Int64} {a7 : Nat → Int32} {a8 : Nat → Int32} {a9 : Nat → Int32} {a10 : Nat → Int32} {a11 : Nat → Int32} {a12 : Nat → Int64} {a13 : Nat → Int64} {a14 : Nat → Int32}
variable {g h : Nat}
theorem tg_ix (d v : Nat) : 14 * nI d + nI v = nI (14 * d + v) := by
  rw [show (14 : Int32) = nI 14 from rfl, pk_mul, nI_add]
theorem tg_m1 (i : Nat) : nI i + (-1) = nI i - 1 := by rw [Int32.sub_eq_add_neg]
theorem tg_cx {g p q : Nat} : 49 * nI g + 7 * nI p + nI q = nI (49 * g + 7 * p + q) := by
  rw [show (49 : Int32) = nI 49 from rfl, show (7 : Int32) = nI 7 from rfl, pk_mul, pk_mul, nI_add, nI_add]
theorem tg_cy {g p q : Nat} (hp : 7 ≤ p) (hq : 7 ≤ q) : 49 * nI g + 7 * (nI p - 7) + nI q - 7 = nI (49 * g + 7 * (p - 7) + (q - 7)) := by
  rw [show nI p - 7 = nI (p - 7) from pk_sub hp, tg_cx, show nI (49 * g + 7 * (p - 7) + q) - 7 = nI (49 * g + 7 * (p - 7) + q - 7) from pk_sub (a := 49 * g + 7 * (p - 7) + q) (b := 7) (by omega)]
  congr 1
  omega
/-- the colour of a pair of points -/
def tg_sh (a1 : Nat → Int32) (g h p q : Nat) : Int32 := if p < 7 then a1 (49 * g + 7 * p + q) else a1 (49 * h + 7 * (p - 7) + (q - 7))
theorem tg_shade {post : Int32 → Prop} {p q : Nat} (hg : g ≤ 1) (hh : h ≤ 1) (hp : p < 14) (hq : q < 14) (hpq : p < 7 ↔ q < 7) (H : post (tg_sh a1 g h p q)) : wpX_shade post (3, (nI g), (nI h), pn, bs, hb, a1, a2, a3, a4, a5, a6, a7, a8, a9, a10, a11, a12, a13, a14) (nI p) (nI q) := by
  unfold tg_sh at H
  refine pk_le 7 p (fun z => ?_) (fun z => ?_)
  · rw [if_neg (by omega)] at H
    refine ⟨pk_in _ 98 (by omega) (tg_cy z (by omega)), ?_⟩
    rw [pk_cl _ (tg_cy z (by omega))]
    exact H
  · rw [if_pos z] at H
    refine ⟨pk_in _ 98 (by omega) tg_cx, ?_⟩
    rw [pk_cl _ tg_cx]
    exact H
/-- points in use -/
def tg_U (p : Nat) : Prop := p < 3 ∨ (7 ≤ p ∧ p < 10)
theorem tg_inU {post : Int32 → Prop} {p : Nat} (hp : p < 14) (h1 : tg_U p → post 1) (h0 : ¬ tg_U p → post 0) : wpX_inUse post (3, (nI g), (nI h), pn, bs, hb, a1, a2, a3, a4, a5, a6, a7, a8, a9, a10, a11, a12, a13, a14) (nI p) := by
  unfold tg_U at h1 h0
  refine pk_le 7 p (fun z => ?_) (fun z => ?_)
  · exact pk_le 3 (p - 7) (fun y => h0 (by omega)) (fun y => h1 (by omega)) rfl (pk_sub z)
  · exact pk_le 3 p (fun y => h0 (by omega)) (fun y => h1 (by omega))
/-! regroup -/
def tg_R (C : Nat → Int32) (M : Nat → Int64) (u v : Nat) : Prop := C u = C v ∧ M u = M v
def tg_F (C : Nat → Int32) (M : Nat → Int64) (v l : Nat) : Prop := l ≤ v ∧ tg_R C M l v ∧ ∀ u, u < l → ¬ tg_R C M u v
theorem tg_Rsym {C : Nat → Int32} {M : Nat → Int64} {u v : Nat} (h : tg_R C M u v) : tg_R C M v u := ⟨h.1.symm, h.2.symm⟩
theorem tg_Rtr {C : Nat → Int32} {M : Nat → Int64} {u v w : Nat} (h : tg_R C M u v) (h' : tg_R C M v w) : tg_R C M u w := ⟨h.1.trans h'.1, h.2.trans h'.2⟩
theorem tg_Fiff {C : Nat → Int32} {M : Nat → Int64} {u v l m : Nat} (hu : tg_F C M u l) (hv : tg_F C M v m) : l = m ↔ tg_R C M u v := by
  constructor
  · intro e
    subst e
    exact tg_Rtr (tg_Rsym hu.2.1) hv.2.1
  · intro r
    have h1 : ¬ l < m := fun z => hv.2.2 l z (tg_Rtr hu.2.1 r)
    have h2 : ¬ m < l := fun z => hu.2.2 m z (tg_Rtr hv.2.1 (tg_Rsym r))
    omega
/-- what a regrouping at depth d makes of the classes -/
def tg_RG (d : Nat) (a4 : Nat → Int32) (M : Nat → Int64) (b4 : Nat → Int32) : Prop :=
  (∀ u v, u < 14 → v < 14 → (b4 (14 * d + u) = b4 (14 * d + v) ↔ a4 (14 * d + u) = a4 (14 * d + v) ∧ M u = M v)) ∧
  (∀ v, v < 14 → ∃ l, l < 14 ∧ b4 (14 * d + v) = nI l) ∧ (∀ k, (k < 14 * d ∨ 14 * d + 14 ≤ k) → b4 k = a4 k)
theorem tg_mkRG {d : Nat} {a4 b4 a5 : Nat → Int32} {M : Nat → Int64} (h : ∀ j, j < 14 → ∃ l, a5 j = nI l ∧ tg_F (fun j => a4 (14 * d + j)) M j l)
    (hb : ∀ j, j < 14 → b4 (14 * d + j) = a5 j) (ho : ∀ k, (k < 14 * d ∨ 14 * d + 14 ≤ k) → b4 k = a4 k) : tg_RG d a4 M b4 := by
  refine ⟨fun u v hu hv => ?_, fun v hv => ?_, ho⟩
  · obtain ⟨l, e1, f1⟩ := h u hu
    obtain ⟨m, e2, f2⟩ := h v hv
    rw [hb u hu, hb v hv, e1, e2, nI_eq (by have := f1.1; omega) (by have := f2.1; omega)]
    exact tg_Fiff f1 f2
  · obtain ⟨l, e1, f1⟩ := h v hv
    exact ⟨l, by have := f1.1; omega, by rw [hb v hv, e1]⟩
theorem tg_nb {x : Int32} (h : x = 0 ∨ x = 1) : narrow .boolean (.int x) = .int x := by
  rcases h with h | h
  · subst h; rfl
  · subst h; rfl
theorem tg_rg92 {post : Int32 → St2 → Prop} {d : Nat} (hd : d ≤ 8) (x2 : Int32) (hx : x2 = 0 ∨ x2 = 1)
    (H : ∀ r b4, (r = 0 ∨ r = 1) → (∀ j, j < 14 → b4 (14 * d + j) = a5 j) → (∀ k, (k < 14 * d ∨ 14 * d + 14 ≤ k) → b4 k = a4 k) → post r (3, (nI g), (nI h), pn, bs, hb, a1, a2, a3, b4, a5, a6, a7, a8, a9, a10, a11, a12, a13, a14)) :
    ∃ n, wX_regroup_92 post (nI d) 3 (nI g) (nI h) pn bs hb n x2 0 a1 a2 a3 a4 a5 a6 a7 a8 a9 a10 a11 a12 a13 a14 := by
  refine pk_loop (σ := Int32 × (Nat → Int32)) (fun n i s => wX_regroup_92 post (nI d) 3 (nI g) (nI h) pn bs hb n s.1 (nI i) a1 a2 a3 s.2 a5 a6 a7 a8 a9 a10 a11 a12 a13 a14) (fun i s => (s.1 = 0 ∨ s.1 = 1) ∧ (∀ j, j < i → s.2 (14 * d + j) = a5 j) ∧ (∀ k, (k < 14 * d ∨ 14 * d + i ≤ k) → s.2 k = a4 k)) 14 0 (x2, a4) (by omega) ⟨hx, fun j hj => absurd hj (by omega), fun k _ => rfl⟩ ?_ ?_
  · intro n s h
    exact pk_le 14 14 (fun _ => ⟨tg_nb h.1, H s.1 s.2 h.1 h.2.1 h.2.2⟩) (fun z => absurd z (by omega))
  · intro n i s hi h hw
    obtain ⟨x, c⟩ := s
    obtain ⟨h1, h2, h3⟩ := h
    dsimp only at h1 h2 h3
    have e1 : (14 * nI d + nI i).toNatClampNeg = 14 * d + i := pk_cl _ (tg_ix d i)
    have e2 : (nI i).toNatClampNeg = i := nI_clamp (by omega)
    refine pk_le 14 i (fun z => absurd z (by omega)) (fun _ => ⟨pk_in (14 * d + i) 128 (by omega) (tg_ix d i), pk_in i 14 hi, ?_⟩)
    rw [e1, e2]
    refine br_c (fun e => nm_r (nI_1 i) (hw (x, c) ⟨h1, fun j hj => ?_, fun k hk => h3 k (by omega)⟩)) (fun e => ⟨pk_in i 14 hi, pk_in (14 * d + i) 128 (by omega) (tg_ix d i), nm_e (nm_r (nI_1 i) (hw (1, upd c (14 * d + i) (a5 i)) ⟨Or.inr rfl, fun j hj => ?_, fun k hk => ?_⟩))⟩)
    · by_cases ej : j = i
      · subst ej; exact e
      · exact h2 j (by omega)
    · show upd c (14 * d + i) (a5 i) (14 * d + j) = a5 j
      by_cases ej : j = i
      · subst ej; exact pk_us
      · rw [pk_un (by omega)]; exact h2 j (by omega)
    · show upd c (14 * d + i) (a5 i) k = a4 k
      rw [pk_un (by omega)]; exact h3 k (by omega)
theorem tg_rg18 {post : Int32 → St2 → Prop} {J4 : Int32 → (Nat → Int32) → (Nat → Int32) → (Nat → Int32) → (Nat → Int32) → (Nat → Int32) → (Nat → Int64) → (Nat → Int32) → (Nat → Int32) → (Nat → Int32) → (Nat → Int32) → (Nat → Int32) → (Nat → Int64) → (Nat → Int64) → (Nat → Int32) → Prop} {d v : Nat} {x2 : Int32} (hd : d ≤ 8) (hv : v < 14)
    (H : ∀ l, tg_F (fun j => a4 (14 * d + j)) a6 v l → J4 (nI (v + 1)) a1 a2 a3 a4 (upd a5 v (nI l)) a6 a7 a8 a9 a10 a11 a12 a13 a14) :
    ∃ n, wX_regroup_18 post J4 (nI d) x2 (nI v) 3 (nI g) (nI h) pn bs hb a1 a2 a3 a4 a5 a6 a7 a8 a9 a10 a11 a12 a13 a14 n (nI v) (nI v - 1) := by
  refine ⟨v + 1, pk_loopD (σ := Nat) (fun n i l => wX_regroup_18 post J4 (nI d) x2 (nI v) 3 (nI g) (nI h) pn bs hb a1 a2 a3 a4 a5 a6 a7 a8 a9 a10 a11 a12 a13 a14 n (nI l) (nI i - 1)) (fun i l => i ≤ v ∧ l ≤ v ∧ tg_R (fun j => a4 (14 * d + j)) a6 l v ∧ ∀ u, i ≤ u → u < l → ¬ tg_R (fun j => a4 (14 * d + j)) a6 u v) ?_ ?_ v v ⟨Nat.le_refl v, Nat.le_refl v, ⟨rfl, rfl⟩, fun u h1 h2 => absurd h2 (by omega)⟩⟩
  · intro n l h
    refine br_t (by decide) ⟨pk_in v 14 hv, ?_⟩
    rw [nI_clamp (show v < 2 ^ 31 by omega)]
    exact nm_e (nm_r (nI_1 v) (H l ⟨h.2.1, h.2.2.1, fun u hu => h.2.2.2 u (Nat.zero_le u) hu⟩))
  · intro n i l h hw
    obtain ⟨h1, h2, h3, h4⟩ := h
    have e1 : (14 * nI d + nI i).toNatClampNeg = 14 * d + i := pk_cl _ (tg_ix d i)
    have e2 : (14 * nI d + nI v).toNatClampNeg = 14 * d + v := pk_cl _ (tg_ix d v)
    have e3 : (nI i).toNatClampNeg = i := nI_clamp (by omega)
    have e4 : (nI v).toNatClampNeg = v := nI_clamp (by omega)
    show wX_regroup_18 post J4 (nI d) x2 (nI v) 3 (nI g) (nI h) pn bs hb a1 a2 a3 a4 a5 a6 a7 a8 a9 a10 a11 a12 a13 a14 (n + 1) (nI l) (nI (i + 1) - 1)
    rw [nI_pred]
    refine br_f (nI_pos (by omega)) ⟨pk_in (14 * d + i) 128 (by omega) (tg_ix d i), pk_in (14 * d + v) 128 (by omega) (tg_ix d v), ?_⟩
    rw [e1, e2]
    refine br_c (fun c1 => ⟨pk_in i 14 (by omega), pk_in v 14 hv, ?_⟩) (fun c1 => nm_r (tg_m1 i) (hw l ⟨by omega, h2, h3, fun u a b r => ?_⟩))
    · rw [e3, e4]
      refine br_c (fun c2 => nm_r (tg_m1 i) (hw i ⟨by omega, by omega, ⟨c1, c2⟩, fun u a b => absurd b (by omega)⟩)) (fun c2 => nm_r (tg_m1 i) (hw l ⟨by omega, h2, h3, fun u a b r => ?_⟩))
      by_cases eu : u = i
      · subst eu; exact c2 r.2
      · exact h4 u (by omega) b r
    · by_cases eu : u = i
      · subst eu; exact c1 r.1
      · exact h4 u (by omega) b r
theorem tg_regroup {post : Int32 → St2 → Prop} {d : Nat} (hd : d ≤ 8) (H : ∀ r b4 b5, tg_RG d a4 a6 b4 → post r (3, (nI g), (nI h), pn, bs, hb, a1, a2, a3, b4, b5, a6, a7, a8, a9, a10, a11, a12, a13, a14)) : wpX_regroup post (3, (nI g), (nI h), pn, bs, hb, a1, a2, a3, a4, a5, a6, a7, a8, a9, a10, a11, a12, a13, a14) (nI d) := by
  refine pk_loop (σ := Nat → Int32) (fun n i s => wX_regroup_4 post (nI d) 0 3 (nI g) (nI h) pn bs hb n (nI i) a1 a2 a3 a4 s a6 a7 a8 a9 a10 a11 a12 a13 a14) (fun i s => ∀ j, j < i → ∃ l, s j = nI l ∧ tg_F (fun j => a4 (14 * d + j)) a6 j l) 14 0 a5 (by omega) (fun j hj => absurd hj (by omega)) ?_ ?_
  · intro n s h
    exact pk_le 14 14 (fun _ => tg_rg92 hd 0 (Or.inl rfl) (fun r b4 hr hb ho => H r b4 s (tg_mkRG h hb ho))) (fun z => absurd z (by omega))
  · intro n i s hi h hw
    refine pk_le 14 i (fun z => absurd z (by omega)) (fun _ => nm_e (tg_rg18 hd hi (fun l hl => hw _ (fun j hj => ?_))))
    by_cases ej : j = i
    · subst ej; exact ⟨l, pk_us, hl⟩
    · obtain ⟨m, e, f⟩ := h j (by omega)
      exact ⟨m, by rw [pk_un ej]; exact e, f⟩
end
end
section
/-! marks, and the refinement -/
section
variable {gX gY pn : Int32} {bs : Int64} {hb : Int32} {a1 : Nat → Int32} {a2 : Nat → Int32} {a3 : Nat → Int32} {a4 : Nat → Int32} {a5 : Nat → Int32} {a6 : Nat → Int64} {a7 : Nat → Int32} {a8 : Nat → Int32} {a9 : Nat → Int32} {a10 : Nat → Int32} {a11 : Nat → Int32} {a12 : Nat → Int64} {a13 : Nat → Int64} {a14 : Nat → Int32}
variable {g h : Nat}
def tg_t (sh : Nat → Nat → Int32) (C : Nat → Int32) (c : Int32) (v w : Nat) : Int64 := if w ≠ v ∧ C w = c then (1 : Int64) <<< ((4 * sh v w).toInt64 &&& 63) else 0
def tg_sm (t : Nat → Int64) (f : Nat) : Nat → Int64
  | 0 => 0
  | n + 1 => tg_sm t f n + t (f + n)
/-- the side of a point -/
def tg_sd (v : Nat) : Nat := if v < 7 then 0 else 7
def tg_mk (sh : Nat → Nat → Int32) (C : Nat → Int32) (c : Int32) (v : Nat) : Int64 := tg_sm (tg_t sh C c v) (tg_sd v) 3
theorem tg_mb33 {post : St2 → Prop} {J2 : Int32 → (Nat → Int32) → (Nat → Int32) → (Nat → Int32) → (Nat → Int32) → (Nat → Int32) → (Nat → Int64) → (Nat → Int32) → (Nat → Int32) → (Nat → Int32) → (Nat → Int32) → (Nat → Int32) → (Nat → Int64) → (Nat → Int64) → (Nat → Int32) → Prop} {d v f : Nat} {c : Int32} {s0 : Nat → Int64} (hg : g ≤ 1) (hh : h ≤ 1) (hd : d ≤ 8) (hf : f = 0 ∨ f = 7) (hfv : f ≤ v) (hvf : v < f + 7) (h0 : s0 v = 0)
    (H : ∀ b6, (∀ j, j ≠ v → b6 j = s0 j) → (tg_U v → b6 v = tg_sm (tg_t (tg_sh a1 g h) (fun j => a4 (14 * d + j)) c v) f 3) → J2 (nI (v + 1)) a1 a2 a3 a4 a5 b6 a7 a8 a9 a10 a11 a12 a13 a14) :
    ∃ n, wX_markBy_33 post J2 (nI d) c (nI v) (nI f) 3 (nI g) (nI h) pn bs hb n (nI f) a1 a2 a3 a4 a5 s0 a7 a8 a9 a10 a11 a12 a13 a14 := by
  refine pk_loop (σ := Nat → Int64) (fun n i s => wX_markBy_33 post J2 (nI d) c (nI v) (nI f) 3 (nI g) (nI h) pn bs hb n (nI (f + i)) a1 a2 a3 a4 a5 s a7 a8 a9 a10 a11 a12 a13 a14) (fun i s => (∀ j, j ≠ v → s j = s0 j) ∧ (tg_U v → s v = tg_sm (tg_t (tg_sh a1 g h) (fun j => a4 (14 * d + j)) c v) f i)) 3 0 s0 (by omega) ⟨fun j _ => rfl, fun _ => h0⟩ ?_ ?_
  · intro n s h
    exact pk_le (f + 3) (f + 3) (fun _ => nm_r (nI_1 v) (H s h.1 h.2)) (fun z => absurd z (by omega)) (nI_add f 3)
  · intro n i s hi h hw
    obtain ⟨h1, h2⟩ := h
    have e1 : (14 * nI d + nI (f + i)).toNatClampNeg = 14 * d + (f + i) := pk_cl _ (tg_ix d (f + i))
    have e2 : (nI v).toNatClampNeg = v := nI_clamp (by omega)
    refine pk_le (f + 3) (f + i) (fun z => absurd z (by omega)) (fun _ => tg_inU (by omega) (fun hU => br_f (by decide) ?_) (fun hU => br_t rfl (nm_r (nI_1 (f + i)) (hw s ⟨h1, fun z => absurd z hU⟩)))) (nI_add f 3)
    refine pk_eq (f + i) v (fun e => nm_r (nI_1 (f + i)) (hw s ⟨h1, fun _ => ?_⟩)) (fun ne => ⟨pk_in (14 * d + (f + i)) 128 (by omega) (tg_ix d (f + i)), ?_⟩)
    · show s v = tg_sm _ f i + tg_t _ _ c v (f + i)
      rw [tg_t, if_neg (fun z => z.1 e), Int64.add_zero]
      exact h2 hU
    · rw [e1]
      refine br_c (fun ce => ⟨pk_in v 14 (by omega), tg_shade hg hh (by omega) (by omega) (by omega) ⟨pk_in v 14 (by omega), ?_⟩⟩) (fun ce => nm_r (nI_1 (f + i)) (hw s ⟨h1, fun _ => ?_⟩))
      · rw [e2]
        refine nm_e (nm_r (nI_1 (f + i)) (hw _ ⟨fun j hj => ?_, fun _ => ?_⟩))
        · rw [pk_uLn hj]; exact h1 j hj
        · rw [pk_uLs]
          show _ = tg_sm _ f i + tg_t _ _ c v (f + i)
          rw [tg_t, if_pos ⟨ne, ce⟩, h2 hU]
      · show s v = tg_sm _ f i + tg_t _ _ c v (f + i)
        rw [tg_t, if_neg (fun z => ce z.2), Int64.add_zero]
        exact h2 hU
theorem tg_markBy {post : St2 → Prop} {d : Nat} {c : Int32} (hg : g ≤ 1) (hh : h ≤ 1) (hd : d ≤ 8)
    (H : ∀ b6, (∀ v, v < 14 → tg_U v → b6 v = tg_mk (tg_sh a1 g h) (fun j => a4 (14 * d + j)) c v) → post (3, (nI g), (nI h), pn, bs, hb, a1, a2, a3, a4, a5, b6, a7, a8, a9, a10, a11, a12, a13, a14)) : wpX_markBy post (3, (nI g), (nI h), pn, bs, hb, a1, a2, a3, a4, a5, a6, a7, a8, a9, a10, a11, a12, a13, a14) (nI d) c := by
  refine pk_loop (σ := Nat → Int64) (fun n i s => wX_markBy_2 post (nI d) c 3 (nI g) (nI h) pn bs hb n (nI i) a1 a2 a3 a4 a5 s a7 a8 a9 a10 a11 a12 a13 a14) (fun i s => ∀ v, v < i → tg_U v → s v = tg_mk (tg_sh a1 g h) (fun j => a4 (14 * d + j)) c v) 14 0 a6 (by omega) (fun j hj => absurd hj (by omega)) ?_ ?_
  · intro n s h
    exact pk_le 14 14 (fun _ => H s h) (fun z => absurd z (by omega))
  · intro n i s hi h hw
    have e2 : (nI i).toNatClampNeg = i := nI_clamp (by omega)
    refine pk_le 14 i (fun z => absurd z (by omega)) (fun _ => ⟨pk_in i 14 hi, ?_⟩)
    rw [e2]
    refine nm_e (pk_le 7 i (fun z => ?_) (fun z => ?_))
    · refine tg_mb33 (f := 7) hg hh hd (Or.inr rfl) z (by omega) pk_uLs (fun b6 k1 k2 => hw b6 (fun v hv hU => ?_))
      by_cases ev : v = i
      · subst ev
        rw [k2 hU, tg_mk, tg_sd, if_neg (by omega)]
      · rw [k1 v ev, pk_uLn ev]
        exact h v (by omega) hU
    · refine tg_mb33 (f := 0) hg hh hd (Or.inl rfl) (by omega) (by omega) pk_uLs (fun b6 k1 k2 => hw b6 (fun v hv hU => ?_))
      by_cases ev : v = i
      · subst ev
        rw [k2 hU, tg_mk, tg_sd, if_pos z]
      · rw [k1 v ev, pk_uLn ev]
        exact h v (by omega) hU
/-! layings -/
def tg_bij (π : Nat → Nat) : Prop := (∀ v, v < 3 → π v < 3) ∧ (∀ u v, u < 3 → v < 3 → π u = π v → u = v)
def tg_iso (sh : Nat → Nat → Int32) (π : Nat → Nat) : Prop := ∀ u v, u < 3 → v < 3 → sh u v = sh (7 + π u) (7 + π v)
def tg_L (sh : Nat → Nat → Int32) (π : Nat → Nat) : Prop := tg_bij π ∧ tg_iso sh π
def tg_con (C : Nat → Int32) (π : Nat → Nat) : Prop := ∀ v, v < 3 → C v = C (7 + π v)
theorem tg_six {π : Nat → Nat} (h : tg_bij π) : (π 0 = 0 ∧ π 1 = 1 ∧ π 2 = 2) ∨ (π 0 = 0 ∧ π 1 = 2 ∧ π 2 = 1) ∨ (π 0 = 1 ∧ π 1 = 0 ∧ π 2 = 2) ∨ (π 0 = 1 ∧ π 1 = 2 ∧ π 2 = 0) ∨ (π 0 = 2 ∧ π 1 = 0 ∧ π 2 = 1) ∨ (π 0 = 2 ∧ π 1 = 1 ∧ π 2 = 0) := by
  have a0 := h.1 0 (by omega)
  have a1 := h.1 1 (by omega)
  have a2 := h.1 2 (by omega)
  have n01 : π 0 ≠ π 1 := fun z => absurd (h.2 0 1 (by omega) (by omega) z) (by omega)
  have n02 : π 0 ≠ π 2 := fun z => absurd (h.2 0 2 (by omega) (by omega) z) (by omega)
  have n12 : π 1 ≠ π 2 := fun z => absurd (h.2 1 2 (by omega) (by omega) z) (by omega)
  omega
theorem tg_sum3 (t : Nat → Int64) {π : Nat → Nat} (h : tg_bij π) : 0 + t (7 + π 0) + t (7 + π 1) + t (7 + π 2) = 0 + t (7 + 0) + t (7 + 1) + t (7 + 2) := by
  rcases tg_six h with e | e | e | e | e | e <;> rw [e.1, e.2.1, e.2.2] <;> grind
theorem tg_mkeq {sh : Nat → Nat → Int32} {C : Nat → Int32} {c : Int32} {π : Nat → Nat} (hL : tg_L sh π) (hC : tg_con C π) {v : Nat} (hv : v < 3) : tg_mk sh C c v = tg_mk sh C c (7 + π v) := by
  have hp := hL.1.1 v hv
  have T : ∀ w, w < 3 → tg_t sh C c v w = tg_t sh C c (7 + π v) (7 + π w) := by
    intro w hw
    have e1 : (w ≠ v ∧ C w = c) ↔ (7 + π w ≠ 7 + π v ∧ C (7 + π w) = c) := by
      rw [← hC w hw]
      constructor
      · rintro ⟨a, b⟩
        exact ⟨fun z => a (hL.1.2 w v hw hv (by omega)), b⟩
      · rintro ⟨a, b⟩
        exact ⟨fun z => a (by rw [z]), b⟩
    unfold tg_t
    rw [← hL.2 v w hv hw]
    by_cases hc : w ≠ v ∧ C w = c
    · rw [if_pos hc, if_pos (e1.mp hc)]
    · rw [if_neg hc, if_neg (fun z => hc (e1.mpr z))]
  unfold tg_mk tg_sd
  rw [if_pos (by omega), if_neg (by omega)]
  show 0 + tg_t sh C c v 0 + tg_t sh C c v 1 + tg_t sh C c v 2 = 0 + tg_t sh C c (7 + π v) (7 + 0) + tg_t sh C c (7 + π v) (7 + 1) + tg_t sh C c (7 + π v) (7 + 2)
  rw [T 0 (by omega), T 1 (by omega), T 2 (by omega)]
  exact tg_sum3 _ hL.1
/-- classes within the fourteen points -/
def tg_rng (d : Nat) (a4 : Nat → Int32) : Prop := ∀ v, v < 14 → ∃ l, l < 14 ∧ a4 (14 * d + v) = nI l
/-- b4 is a refinement of a4 at depth d that splits no laying -/
def tg_RF (sh : Nat → Nat → Int32) (d : Nat) (a4 b4 : Nat → Int32) : Prop :=
  (∀ u v, u < 14 → v < 14 → b4 (14 * d + u) = b4 (14 * d + v) → a4 (14 * d + u) = a4 (14 * d + v)) ∧
  (∀ π, tg_L sh π → tg_con (fun j => a4 (14 * d + j)) π → tg_con (fun j => b4 (14 * d + j)) π) ∧
  tg_rng d b4 ∧ (∀ k, (k < 14 * d ∨ 14 * d + 14 ≤ k) → b4 k = a4 k)
theorem tg_RF0 {sh : Nat → Nat → Int32} {d : Nat} {a4 : Nat → Int32} (h : tg_rng d a4) : tg_RF sh d a4 a4 := ⟨fun _ _ _ _ z => z, fun _ _ z => z, h, fun _ _ => rfl⟩
theorem tg_RFs {sh : Nat → Nat → Int32} {d : Nat} {a4 b4 c4 : Nat → Int32} {m : Nat → Int64} {c : Int32} (h : tg_RF sh d a4 b4) (hm : ∀ v, v < 14 → tg_U v → m v = tg_mk sh (fun j => b4 (14 * d + j)) c v) (hr : tg_RG d b4 m c4) : tg_RF sh d a4 c4 := by
  obtain ⟨h1, h2, h3, h4⟩ := h
  obtain ⟨r1, r2, r3⟩ := hr
  refine ⟨fun u v hu hv z => h1 u v hu hv ((r1 u v hu hv).mp z).1, fun π hL hC v hv => ?_, r2, fun k hk => by rw [r3 k hk, h4 k hk]⟩
  have hp := hL.1.1 v hv
  have hb := h2 π hL hC
  refine (r1 v (7 + π v) (by omega) (by omega)).mpr ⟨hb v hv, ?_⟩
  rw [hm v (by omega) (Or.inl hv), hm (7 + π v) (by omega) (Or.inr (by omega))]
  exact tg_mkeq hL hb hv
theorem tg_rf19 {post : St2 → Prop} {J4 : Int32 → Int32 → Int32 → Int32 → Int32 → Int32 → Int64 → Int32 → (Nat → Int32) → (Nat → Int32) → (Nat → Int32) → (Nat → Int32) → (Nat → Int32) → (Nat → Int64) → (Nat → Int32) → (Nat → Int32) → (Nat → Int32) → (Nat → Int32) → (Nat → Int32) → (Nat → Int64) → (Nat → Int64) → (Nat → Int32) → Prop} {d r : Nat} {x2 : Int32} {z4 : Nat → Int32} (hg : g ≤ 1) (hh : h ≤ 1) (hd : d ≤ 8) (h0 : tg_RF (tg_sh a1 g h) d z4 a4)
    (H : ∀ x b4 b5 b6, tg_RF (tg_sh a1 g h) d z4 b4 → J4 x (nI (r + 1)) 3 (nI g) (nI h) pn bs hb a1 a2 a3 b4 b5 b6 a7 a8 a9 a10 a11 a12 a13 a14) :
    ∃ n, wX_refine_19 post J4 (nI d) (nI r) n x2 0 3 (nI g) (nI h) pn bs hb a1 a2 a3 a4 a5 a6 a7 a8 a9 a10 a11 a12 a13 a14 := by
  refine pk_loop (σ := Int32 × (Nat → Int32) × (Nat → Int32) × (Nat → Int64)) (fun n i s => wX_refine_19 post J4 (nI d) (nI r) n s.1 (nI i) 3 (nI g) (nI h) pn bs hb a1 a2 a3 s.2.1 s.2.2.1 s.2.2.2 a7 a8 a9 a10 a11 a12 a13 a14) (fun i s => tg_RF (tg_sh a1 g h) d z4 s.2.1) 14 0 (x2, a4, a5, a6) (by omega) h0 ?_ ?_
  · intro n s h
    exact pk_le 14 14 (fun _ => nm_r (nI_1 r) (H s.1 s.2.1 s.2.2.1 s.2.2.2 h)) (fun z => absurd z (by omega))
  · intro n i s hi h hw
    obtain ⟨x, c4, c5, c6⟩ := s
    dsimp only at h
    have e1 : (14 * nI d + nI i).toNatClampNeg = 14 * d + i := pk_cl _ (tg_ix d i)
    refine pk_le 14 i (fun z => absurd z (by omega)) (fun _ => tg_inU hi (fun hU => br_f (by decide) ⟨pk_in (14 * d + i) 128 (by omega) (tg_ix d i), ?_⟩) (fun hU => br_t rfl (nm_r (nI_1 i) (hw (x, c4, c5, c6) h))))
    rw [e1]
    refine br_c (fun ce => tg_markBy hg hh hd (fun b6 hb => tg_regroup hd (fun q b4 b5 hq => ?_))) (fun ce => nm_r (nI_1 i) (hw (x, c4, c5, c6) h))
    have k := tg_RFs h hb hq
    exact br_c (fun _ => br_c (fun _ => nm_r (nI_1 i) (hw (0, b4, b5, b6) k)) (fun _ => nm_r (nI_1 i) (hw (1, b4, b5, b6) k))) (fun _ => nm_r (nI_1 i) (hw (1, b4, b5, b6) k))
theorem tg_refine {post : St2 → Prop} {d : Nat} (hg : g ≤ 1) (hh : h ≤ 1) (hd : d ≤ 8) (h0 : tg_rng d a4) (H : ∀ b4 b5 b6, tg_RF (tg_sh a1 g h) d a4 b4 → post (3, (nI g), (nI h), pn, bs, hb, a1, a2, a3, b4, b5, b6, a7, a8, a9, a10, a11, a12, a13, a14)) : wpX_refine post (3, (nI g), (nI h), pn, bs, hb, a1, a2, a3, a4, a5, a6, a7, a8, a9, a10, a11, a12, a13, a14) (nI d) := by
  refine pk_loop (σ := Int32 × (Nat → Int32) × (Nat → Int32) × (Nat → Int64)) (fun n i s => wX_refine_4 post (nI d) n s.1 (nI i) 3 (nI g) (nI h) pn bs hb a1 a2 a3 s.2.1 s.2.2.1 s.2.2.2 a7 a8 a9 a10 a11 a12 a13 a14) (fun i s => tg_RF (tg_sh a1 g h) d a4 s.2.1) 15 0 (1, a4, a5, a6) (by omega) (tg_RF0 h0) ?_ ?_
  · intro n s h
    exact pk_le 15 15 (fun _ => H s.2.1 s.2.2.1 s.2.2.2 h) (fun z => absurd z (by omega))
  · intro n i s hi h hw
    exact pk_le 15 i (fun z => absurd z (by omega)) (fun _ => br_c (fun _ => H s.2.1 s.2.2.1 s.2.2.2 h) (fun _ => tg_rf19 hg hh hd h (fun x b4 b5 b6 k => hw (x, b4, b5, b6) k)))
end
end
section
/-! balance, the choice of a point, the next try, the last check, the first classes -/
section
variable {gX gY pn : Int32} {bs : Int64} {hb : Int32} {a1 : Nat → Int32} {a2 : Nat → Int32} {a3 : Nat → Int32} {a4 : Nat → Int32} {a5 : Nat → Int32} {a6 : Nat → Int64} {a7 : Nat → Int32} {a8 : Nat → Int32} {a9 : Nat → Int32} {a10 : Nat → Int32} {a11 : Nat → Int32} {a12 : Nat → Int64} {a13 : Nat → Int64} {a14 : Nat → Int32}
variable {g h : Nat}
theorem tg_ix7 (d v : Nat) : 14 * nI d + nI v + 7 = nI (14 * d + (7 + v)) := by
  rw [tg_ix, show (7 : Int32) = nI 7 from rfl, nI_add]
  congr 1
  omega
theorem tg_ix7' (d v : Nat) : 14 * nI d + 7 + nI v = nI (14 * d + (7 + v)) := by
  rw [show (14 : Int32) * nI d + 7 = nI (14 * d + 7) from tg_ix d 7, nI_add]
  congr 1
  omega
def tg_cnt (C : Nat → Int32) (c o : Nat) : Nat → Nat
  | 0 => 0
  | n + 1 => tg_cnt C c o n + if C (o + n) = nI c then 1 else 0
theorem tg_cnt_le (C : Nat → Int32) (c o n : Nat) : tg_cnt C c o n ≤ n := by
  induction n with
  | zero => exact Nat.le_refl 0
  | succ n ih =>
    show tg_cnt C c o n + (if C (o + n) = nI c then 1 else 0) ≤ n + 1
    split <;> omega
theorem tg_cnt3 (C : Nat → Int32) (c o : Nat) : tg_cnt C c o 3 = 0 + (if C (o + 0) = nI c then 1 else 0) + (if C (o + 1) = nI c then 1 else 0) + (if C (o + 2) = nI c then 1 else 0) := rfl
theorem tg_cnt_pos {C : Nat → Int32} {c o : Nat} (h : 1 ≤ tg_cnt C c o 3) : ∃ w, w < 3 ∧ C (o + w) = nI c := by
  by_cases h0 : C (o + 0) = nI c
  · exact ⟨0, by omega, h0⟩
  by_cases h1 : C (o + 1) = nI c
  · exact ⟨1, by omega, h1⟩
  by_cases h2 : C (o + 2) = nI c
  · exact ⟨2, by omega, h2⟩
  rw [tg_cnt3, if_neg h0, if_neg h1, if_neg h2] at h
  omega
theorem tg_cnt_one {C : Nat → Int32} {c o u : Nat} (hu : u < 3) (e : C (o + u) = nI c) : 1 ≤ tg_cnt C c o 3 := by
  rw [tg_cnt3]
  have h : u = 0 ∨ u = 1 ∨ u = 2 := by omega
  rcases h with h | h | h <;> subst h <;> rw [if_pos e] <;> omega
theorem tg_cnt_uni {C : Nat → Int32} {c o u v : Nat} (h : tg_cnt C c o 3 ≤ 1) (hu : u < 3) (hv : v < 3) (e1 : C (o + u) = nI c) (e2 : C (o + v) = nI c) : u = v := by
  by_cases ne : u = v
  · exact ne
  exfalso
  rw [tg_cnt3] at h
  have k : (u = 0 ∧ v = 1) ∨ (u = 0 ∧ v = 2) ∨ (u = 1 ∧ v = 0) ∨ (u = 1 ∧ v = 2) ∨ (u = 2 ∧ v = 0) ∨ (u = 2 ∧ v = 1) := by omega
  rcases k with ⟨a, b⟩ | ⟨a, b⟩ | ⟨a, b⟩ | ⟨a, b⟩ | ⟨a, b⟩ | ⟨a, b⟩ <;> subst a <;> subst b <;> rw [if_pos e1, if_pos e2] at h <;> split at h <;> omega
theorem tg_cnt_two {C : Nat → Int32} {c : Nat} (h : 2 ≤ tg_cnt C c 0 3) : ∃ u v, u < 3 ∧ v < 3 ∧ u ≠ v ∧ C u = C v := by
  rw [tg_cnt3] at h
  by_cases h0 : C (0 + 0) = nI c
  · by_cases h1 : C (0 + 1) = nI c
    · exact ⟨0, 1, by omega, by omega, by omega, h0.trans h1.symm⟩
    · by_cases h2 : C (0 + 2) = nI c
      · exact ⟨0, 2, by omega, by omega, by omega, h0.trans h2.symm⟩
      · rw [if_pos h0, if_neg h1, if_neg h2] at h; omega
  · by_cases h1 : C (0 + 1) = nI c
    · by_cases h2 : C (0 + 2) = nI c
      · exact ⟨1, 2, by omega, by omega, by omega, h1.trans h2.symm⟩
      · rw [if_neg h0, if_pos h1, if_neg h2] at h; omega
    · rw [if_neg h0, if_neg h1] at h
      split at h <;> omega
theorem tg_cnt_con {C : Nat → Int32} {c : Nat} {π : Nat → Nat} (hb : tg_bij π) (hC : tg_con C π) : tg_cnt C c 0 3 = tg_cnt C c 7 3 := by
  have c0 : C (0 + 0) = C (7 + π 0) := hC 0 (by omega)
  have c1 : C (0 + 1) = C (7 + π 1) := hC 1 (by omega)
  have c2 : C (0 + 2) = C (7 + π 2) := hC 2 (by omega)
  rw [tg_cnt3, tg_cnt3, c0, c1, c2]
  generalize hI : (fun x => if C (7 + x) = nI c then 1 else 0) = I
  have J : ∀ x, (if C (7 + x) = nI c then 1 else 0) = I x := fun x => by rw [← hI]
  rw [J, J, J, J, J, J]
  rcases tg_six hb with e | e | e | e | e | e <;> rw [e.1, e.2.1, e.2.2] <;> omega
theorem tg_bl51 {post : Int32 → Prop} {J4 : Int32 → Int32 → Prop} {J19 : Int32 → Int32 → Int32 → Prop} {d c i p q z : Nat} {x2 : Int32} (hd : d ≤ 8) (hi : i < 3)
    (H : J19 (nI (p + z)) (nI (q + if a4 (14 * d + (7 + i)) = nI c then 1 else 0)) (nI (i + 1))) :
    wX_balance_51 post J4 J19 (nI d) x2 (nI c) (nI q) (nI i) (nI z) (nI p) 3 (nI g) (nI h) pn bs hb a1 a2 a3 a4 a5 a6 a7 a8 a9 a10 a11 a12 a13 a14 := by
  refine nm_r (nI_add p z) ⟨pk_in _ 128 (by omega) (tg_ix7 d i), ?_⟩
  rw [pk_cl _ (tg_ix7 d i)]
  refine br_c (fun e => nm_r (nI_1 q) (nm_r (nI_1 i) ?_)) (fun e => nm_r (nI_add q 0) (nm_r (nI_1 i) ?_))
  · rw [if_pos e] at H; exact H
  · rw [if_neg e] at H; exact H
theorem tg_bl19 {post : Int32 → Prop} {J4 : Int32 → Int32 → Prop} {d c : Nat} {x2 : Int32} (hd : d ≤ 8)
    (H0 : tg_cnt (fun j => a4 (14 * d + j)) c 0 3 ≠ tg_cnt (fun j => a4 (14 * d + j)) c 7 3 → post 0)
    (H1 : tg_cnt (fun j => a4 (14 * d + j)) c 0 3 = tg_cnt (fun j => a4 (14 * d + j)) c 7 3 → tg_cnt (fun j => a4 (14 * d + j)) c 0 3 ≤ 1 → J4 x2 (nI (c + 1)))
    (H2 : tg_cnt (fun j => a4 (14 * d + j)) c 0 3 = tg_cnt (fun j => a4 (14 * d + j)) c 7 3 → 1 < tg_cnt (fun j => a4 (14 * d + j)) c 0 3 → J4 2 (nI (c + 1))) :
    ∃ n, wX_balance_19 post J4 (nI d) x2 (nI c) 3 (nI g) (nI h) pn bs hb a1 a2 a3 a4 a5 a6 a7 a8 a9 a10 a11 a12 a13 a14 n 0 0 0 := by
  have b0 := tg_cnt_le (fun j => a4 (14 * d + j)) c 0 3
  have b7 := tg_cnt_le (fun j => a4 (14 * d + j)) c 7 3
  refine pk_loop (σ := Unit) (fun n i _ => wX_balance_19 post J4 (nI d) x2 (nI c) 3 (nI g) (nI h) pn bs hb a1 a2 a3 a4 a5 a6 a7 a8 a9 a10 a11 a12 a13 a14 n (nI (tg_cnt (fun j => a4 (14 * d + j)) c 0 i)) (nI (tg_cnt (fun j => a4 (14 * d + j)) c 7 i)) (nI i)) (fun _ _ => True) 3 0 () (by omega) trivial ?_ ?_
  · intro n _ _
    exact pk_le 3 3 (fun _ => pk_eq _ _ (fun e => pk_le _ 1 (fun z => nm_r (nI_1 c) (H1 e z)) (fun z => nm_r (nI_1 c) (H2 e z))) (fun ne => H0 ne)) (fun z => absurd z (by omega))
  · intro n i _ hi _ hw
    refine pk_le 3 i (fun z => absurd z (by omega)) (fun _ => ⟨pk_in (14 * d + i) 128 (by omega) (tg_ix d i), ?_⟩)
    rw [pk_cl _ (tg_ix d i)]
    have K := hw () trivial
    have e0 : tg_cnt (fun j => a4 (14 * d + j)) c 0 (i + 1) = tg_cnt (fun j => a4 (14 * d + j)) c 0 i + if a4 (14 * d + i) = nI c then 1 else 0 := by
      show _ + (if a4 (14 * d + (0 + i)) = nI c then 1 else 0) = _
      rw [Nat.zero_add]
    have e7 : tg_cnt (fun j => a4 (14 * d + j)) c 7 (i + 1) = tg_cnt (fun j => a4 (14 * d + j)) c 7 i + if a4 (14 * d + (7 + i)) = nI c then 1 else 0 := rfl
    rw [e0, e7] at K
    refine br_c (fun e => tg_bl51 (z := 1) hd hi ?_) (fun e => tg_bl51 (z := 0) hd hi ?_)
    · rw [if_pos e] at K; exact K
    · rw [if_neg e] at K; exact K
theorem tg_balance {post : Int32 → Prop} {d : Nat} (hd : d ≤ 8)
    (H0 : ∀ c, tg_cnt (fun j => a4 (14 * d + j)) c 0 3 ≠ tg_cnt (fun j => a4 (14 * d + j)) c 7 3 → post 0)
    (H1 : (∀ c, c < 14 → tg_cnt (fun j => a4 (14 * d + j)) c 0 3 = tg_cnt (fun j => a4 (14 * d + j)) c 7 3 ∧ tg_cnt (fun j => a4 (14 * d + j)) c 0 3 ≤ 1) → post 1)
    (H2 : ∀ c, 2 ≤ tg_cnt (fun j => a4 (14 * d + j)) c 0 3 → post 2) : wpX_balance post (3, (nI g), (nI h), pn, bs, hb, a1, a2, a3, a4, a5, a6, a7, a8, a9, a10, a11, a12, a13, a14) (nI d) := by
  refine pk_loop (σ := Int32) (fun n i s => wX_balance_4 post (nI d) 3 (nI g) (nI h) pn bs hb a1 a2 a3 a4 a5 a6 a7 a8 a9 a10 a11 a12 a13 a14 n s (nI i)) (fun i s => (s = 1 ∧ ∀ c, c < i → tg_cnt (fun j => a4 (14 * d + j)) c 0 3 = tg_cnt (fun j => a4 (14 * d + j)) c 7 3 ∧ tg_cnt (fun j => a4 (14 * d + j)) c 0 3 ≤ 1) ∨ (s = 2 ∧ ∃ c, 2 ≤ tg_cnt (fun j => a4 (14 * d + j)) c 0 3)) 14 0 1 (by omega) (Or.inl ⟨rfl, fun c hc => absurd hc (by omega)⟩) ?_ ?_
  · intro n s h
    refine pk_le 14 14 (fun _ => ?_) (fun z => absurd z (by omega))
    rcases h with ⟨e, h⟩ | ⟨e, c, h⟩
    · subst e; exact H1 h
    · subst e; exact H2 c h
  · intro n i s hi h hw
    refine pk_le 14 i (fun z => absurd z (by omega)) (fun _ => tg_bl19 hd (fun ne => H0 i ne) (fun e z => hw s ?_) (fun e z => hw 2 (Or.inr ⟨rfl, i, z⟩)))
    rcases h with ⟨es, h⟩ | ⟨es, h⟩
    · refine Or.inl ⟨es, fun c hc => ?_⟩
      by_cases ec : c = i
      · subst ec; exact ⟨e, z⟩
      · exact h c (by omega)
    · exact Or.inr ⟨es, h⟩
/-- all classes have one point of each side: the only candidate -/
theorem tg_one {C : Nat → Int32} (hr : ∀ v, v < 14 → ∃ l, l < 14 ∧ C v = nI l) (h : ∀ c, c < 14 → tg_cnt C c 0 3 = tg_cnt C c 7 3 ∧ tg_cnt C c 0 3 ≤ 1) : ∃ π : Nat → Nat, tg_bij π ∧ ∀ v, v < 3 → ∀ w, w < 3 → (C (7 + w) = C v ↔ w = π v) := by
  have ex : ∀ v, ∃ w, v < 3 → w < 3 ∧ C (7 + w) = C v := by
    intro v
    by_cases hv : v < 3
    · obtain ⟨l, hl, e⟩ := hr v (by omega)
      have k := tg_cnt_one (C := C) (c := l) (o := 0) hv (by rw [Nat.zero_add]; exact e)
      rw [(h l hl).1] at k
      obtain ⟨w, hw, ew⟩ := tg_cnt_pos k
      exact ⟨w, fun _ => ⟨hw, ew.trans e.symm⟩⟩
    · exact ⟨0, fun z => absurd z hv⟩
  obtain ⟨π, hπ⟩ := Classical.skolem.mp ex
  refine ⟨π, ⟨fun v hv => (hπ v hv).1, fun u v hu hv e => ?_⟩, fun v hv w hw => ⟨fun e => ?_, fun e => ?_⟩⟩
  · obtain ⟨l, hl, el⟩ := hr u (by omega)
    refine tg_cnt_uni (C := C) (c := l) (o := 0) (h l hl).2 hu hv (by rw [Nat.zero_add]; exact el) (by rw [Nat.zero_add, ← (hπ v hv).2, ← e, (hπ u hu).2]; exact el)
  · obtain ⟨l, hl, el⟩ := hr v (by omega)
    have k := (h l hl).2
    rw [(h l hl).1] at k
    exact tg_cnt_uni k hw (hπ v hv).1 (e.trans el) ((hπ v hv).2.trans el)
  · rw [e]; exact (hπ v hv).2
/-! shared, chooseX -/
def tg_S (C : Nat → Int32) (v : Nat) : Prop := ∃ u, u < 3 ∧ u ≠ v ∧ C u = C v
theorem tg_shared {post : Int32 → Prop} {d v : Nat} (hd : d ≤ 8) (hv : v < 3) (H1 : tg_S (fun j => a4 (14 * d + j)) v → post 1) (H0 : ¬ tg_S (fun j => a4 (14 * d + j)) v → post 0) : wpX_shared post (3, (nI g), (nI h), pn, bs, hb, a1, a2, a3, a4, a5, a6, a7, a8, a9, a10, a11, a12, a13, a14) (nI d) (nI v) := by
  refine pk_loop (σ := Unit) (fun n i _ => wX_shared_2 post (nI d) (nI v) 3 (nI g) (nI h) pn bs hb a1 a2 a3 a4 a5 a6 a7 a8 a9 a10 a11 a12 a13 a14 n (nI i)) (fun i _ => ∀ u, u < i → u ≠ v → ¬ a4 (14 * d + u) = a4 (14 * d + v)) 3 0 () (by omega) (fun u hu => absurd hu (by omega)) ?_ ?_
  · intro n _ h
    exact pk_le 3 3 (fun _ => H0 (fun ⟨u, hu, hn, e⟩ => h u hu hn e)) (fun z => absurd z (by omega))
  · intro n i _ hi h hw
    refine pk_le 3 i (fun z => absurd z (by omega)) (fun _ => pk_eq i v (fun e => nm_r (nI_1 i) (hw () (fun u hu hn => h u (by omega) hn))) (fun ne => ⟨pk_in (14 * d + i) 128 (by omega) (tg_ix d i), pk_in (14 * d + v) 128 (by omega) (tg_ix d v), ?_⟩))
    rw [pk_cl _ (tg_ix d i), pk_cl _ (tg_ix d v)]
    refine br_c (fun e => H1 ⟨i, hi, ne, e⟩) (fun e => nm_r (nI_1 i) (hw () (fun u hu hn => ?_)))
    by_cases eu : u = i
    · subst eu; exact e
    · exact h u (by omega) hn
theorem tg_chooseX {post : St2 → Prop} {d : Nat} (hd : d ≤ 8) (hs : ∃ v, v < 3 ∧ tg_S (fun j => a4 (14 * d + j)) v)
    (H : ∀ x, x < 3 → tg_S (fun j => a4 (14 * d + j)) x → post (3, (nI g), (nI h), pn, bs, hb, a1, a2, a3, a4, a5, a6, (upd a7 d (nI x)), (upd a8 d (nI 7)), a9, a10, a11, a12, a13, a14)) : wpX_chooseX post (3, (nI g), (nI h), pn, bs, hb, a1, a2, a3, a4, a5, a6, a7, a8, a9, a10, a11, a12, a13, a14) (nI d) := by
  have ed : (nI d).toNatClampNeg = d := nI_clamp (by omega)
  refine ⟨pk_in d 9 (by omega), ?_⟩
  rw [ed]
  refine nm_e (nm_e ⟨3 + 1, pk_loopD (σ := Nat) (fun n i x => wX_chooseX_17 post (nI d) 3 (nI g) (nI h) pn bs hb a1 a2 a3 a4 a5 a6 a7 (upd a8 d (nI 7)) a9 a10 a11 a12 a13 a14 n (nI x) (nI i - 1)) (fun i x => i ≤ 3 ∧ x < 3 ∧ ((∃ v, v < 3 ∧ i ≤ v ∧ tg_S (fun j => a4 (14 * d + j)) v) → tg_S (fun j => a4 (14 * d + j)) x)) ?_ ?_ 3 0 ⟨by omega, by omega, fun ⟨v, h1, h2, _⟩ => absurd h1 (by omega)⟩⟩)
  · intro n x h
    refine br_t (by decide) ⟨pk_in d 9 (by omega), ?_⟩
    rw [ed]
    obtain ⟨v, h1, h2⟩ := hs
    exact nm_e (H x h.2.1 (h.2.2 ⟨v, h1, Nat.zero_le v, h2⟩))
  · intro n i x h hw
    obtain ⟨h1, h2, h3⟩ := h
    show wX_chooseX_17 post (nI d) 3 (nI g) (nI h) pn bs hb a1 a2 a3 a4 a5 a6 a7 (upd a8 d (nI 7)) a9 a10 a11 a12 a13 a14 (n + 1) (nI x) (nI (i + 1) - 1)
    rw [nI_pred]
    refine br_f (nI_pos (by omega)) (tg_shared hd (by omega) (fun hS => br_f (by decide) (nm_r (tg_m1 i) (hw i ⟨by omega, by omega, fun _ => hS⟩))) (fun hS => br_t rfl (nm_r (tg_m1 i) (hw x ⟨by omega, h2, fun ⟨v, v1, v2, v3⟩ => ?_⟩))))
    by_cases ev : v = i
    · subst ev; exact absurd v3 hS
    · exact h3 ⟨v, v1, by omega, v3⟩
/-! isLaying -/
theorem tg_il82 {post : Int32 → St2 → Prop} {J72 : Int32 → Prop} {v : Nat} {π : Nat → Nat} (hg : g ≤ 1) (hh : h ≤ 1) (hv : v < 3) (hπ : ∀ v, v < 3 → π v < 3) (ha : ∀ j, j < 3 → a9 j = nI (7 + π j))
    (H1 : (∀ w, w < 3 → tg_sh a1 g h v w = tg_sh a1 g h (7 + π v) (7 + π w)) → J72 (nI (v + 1)))
    (H0 : ∀ w, w < 3 → ¬ tg_sh a1 g h v w = tg_sh a1 g h (7 + π v) (7 + π w) → post 0 (3, (nI g), (nI h), pn, bs, hb, a1, a2, a3, a4, a5, a6, a7, a8, a9, a10, a11, a12, a13, a14)) :
    ∃ n, wX_isLaying_82 post J72 (nI v) 3 (nI g) (nI h) pn bs hb a1 a2 a3 a4 a5 a6 a7 a8 a9 a10 a11 a12 a13 a14 n 0 := by
  refine pk_loop (σ := Unit) (fun n i _ => wX_isLaying_82 post J72 (nI v) 3 (nI g) (nI h) pn bs hb a1 a2 a3 a4 a5 a6 a7 a8 a9 a10 a11 a12 a13 a14 n (nI i)) (fun i _ => ∀ w, w < i → tg_sh a1 g h v w = tg_sh a1 g h (7 + π v) (7 + π w)) 3 0 () (by omega) (fun u hu => absurd hu (by omega)) ?_ ?_
  · intro n _ h
    exact pk_le 3 3 (fun _ => nm_r (nI_1 v) (H1 h)) (fun z => absurd z (by omega))
  · intro n i _ hi h hw
    have p1 := hπ v hv
    have p2 := hπ i hi
    refine pk_le 3 i (fun z => absurd z (by omega)) (fun _ => tg_shade hg hh (by omega) (by omega) (by omega) ⟨pk_in v 7 (by omega), pk_in i 7 (by omega), ?_⟩)
    rw [nI_clamp (show v < 2 ^ 31 by omega), nI_clamp (show i < 2 ^ 31 by omega), ha v hv, ha i hi]
    refine tg_shade hg hh (by omega) (by omega) (by omega) (br_c (fun e => nm_r (nI_1 i) (hw () (fun w hw' => ?_))) (fun e => H0 i hi e))
    by_cases ew : w = i
    · subst ew; exact e
    · exact h w (by omega)
theorem tg_il72 {post : Int32 → St2 → Prop} {π : Nat → Nat} (hg : g ≤ 1) (hh : h ≤ 1) (hπ : ∀ v, v < 3 → π v < 3) (ha : ∀ j, j < 3 → a9 j = nI (7 + π j))
    (H1 : tg_iso (tg_sh a1 g h) π → post 1 (3, (nI g), (nI h), pn, bs, hb, a1, a2, a3, a4, a5, a6, a7, a8, a9, a10, a11, a12, a13, a14)) (H0 : ¬ tg_iso (tg_sh a1 g h) π → post 0 (3, (nI g), (nI h), pn, bs, hb, a1, a2, a3, a4, a5, a6, a7, a8, a9, a10, a11, a12, a13, a14)) :
    ∃ n, wX_isLaying_72 post 3 (nI g) (nI h) pn bs hb a1 a2 a3 a4 a5 a6 a7 a8 a9 a10 a11 a12 a13 a14 n 0 := by
  refine pk_loop (σ := Unit) (fun n i _ => wX_isLaying_72 post 3 (nI g) (nI h) pn bs hb a1 a2 a3 a4 a5 a6 a7 a8 a9 a10 a11 a12 a13 a14 n (nI i)) (fun i _ => ∀ v w, v < i → w < 3 → tg_sh a1 g h v w = tg_sh a1 g h (7 + π v) (7 + π w)) 3 0 () (by omega) (fun u w hu => absurd hu (by omega)) ?_ ?_
  · intro n _ h
    exact pk_le 3 3 (fun _ => H1 (fun u v hu hv => h u v hu hv)) (fun z => absurd z (by omega))
  · intro n i _ hi h hw
    refine pk_le 3 i (fun z => absurd z (by omega)) (fun _ => tg_il82 hg hh hi hπ ha (fun k => hw () (fun v w hv hw' => ?_)) (fun w hw' ne => H0 (fun z => ne (z i w hi hw'))))
    by_cases ev : v = i
    · subst ev; exact k w hw'
    · exact h v w (by omega) hw'
theorem tg_il12 {post : Int32 → St2 → Prop} {J2 : Int32 → (Nat → Int32) → (Nat → Int32) → (Nat → Int32) → (Nat → Int32) → (Nat → Int32) → (Nat → Int64) → (Nat → Int32) → (Nat → Int32) → (Nat → Int32) → (Nat → Int32) → (Nat → Int32) → (Nat → Int64) → (Nat → Int64) → (Nat → Int32) → Prop} {d v : Nat} {π : Nat → Nat} (hd : d ≤ 8) (hv : v < 3) (hp : π v < 3) (hπ : ∀ w, w < 3 → (a4 (14 * d + (7 + w)) = a4 (14 * d + v) ↔ w = π v))
    (H : ∀ b9, (∀ j, j < v → b9 j = a9 j) → b9 v = nI (7 + π v) → J2 (nI (v + 1)) a1 a2 a3 a4 a5 a6 a7 a8 b9 a10 a11 a12 a13 a14) :
    ∃ n, wX_isLaying_12 post J2 (nI d) (nI v) 3 (nI g) (nI h) pn bs hb n 0 a1 a2 a3 a4 a5 a6 a7 a8 a9 a10 a11 a12 a13 a14 := by
  refine pk_loop (σ := Nat → Int32) (fun n i s => wX_isLaying_12 post J2 (nI d) (nI v) 3 (nI g) (nI h) pn bs hb n (nI i) a1 a2 a3 a4 a5 a6 a7 a8 s a10 a11 a12 a13 a14) (fun i s => (∀ j, j < v → s j = a9 j) ∧ (π v < i → s v = nI (7 + π v))) 3 0 a9 (by omega) ⟨fun _ _ => rfl, fun z => absurd z (by omega)⟩ ?_ ?_
  · intro n s h
    exact pk_le 3 3 (fun _ => nm_r (nI_1 v) (H s h.1 (h.2 hp))) (fun z => absurd z (by omega))
  · intro n i s hi h hw
    refine pk_le 3 i (fun z => absurd z (by omega)) (fun _ => ⟨pk_in (14 * d + (7 + i)) 128 (by omega) (tg_ix7' d i), pk_in (14 * d + v) 128 (by omega) (tg_ix d v), ?_⟩)
    rw [pk_cl _ (tg_ix7' d i), pk_cl _ (tg_ix d v)]
    refine br_c (fun e => ⟨pk_in v 7 (by omega), ?_⟩) (fun e => nm_r (nI_1 i) (hw s ⟨h.1, fun z => h.2 ?_⟩))
    · rw [nI_clamp (show v < 2 ^ 31 by omega), show (7 : Int32) + nI i = nI (7 + i) from nI_add 7 i]
      have ei := (hπ i hi).mp e
      refine nm_e (nm_r (nI_1 i) (hw _ ⟨fun j hj => ?_, fun _ => ?_⟩))
      · rw [pk_un (by omega)]; exact h.1 j hj
      · rw [pk_us, ei]
    · have ne : i ≠ π v := fun z => e ((hπ i hi).mpr z)
      omega
theorem tg_isLaying {post : Int32 → St2 → Prop} {d : Nat} {π : Nat → Nat} (hg : g ≤ 1) (hh : h ≤ 1) (hd : d ≤ 8) (hp : ∀ v, v < 3 → π v < 3) (hπ : ∀ v, v < 3 → ∀ w, w < 3 → (a4 (14 * d + (7 + w)) = a4 (14 * d + v) ↔ w = π v))
    (H1 : tg_iso (tg_sh a1 g h) π → ∀ b9, post 1 (3, (nI g), (nI h), pn, bs, hb, a1, a2, a3, a4, a5, a6, a7, a8, b9, a10, a11, a12, a13, a14)) (H0 : ¬ tg_iso (tg_sh a1 g h) π → ∀ b9, post 0 (3, (nI g), (nI h), pn, bs, hb, a1, a2, a3, a4, a5, a6, a7, a8, b9, a10, a11, a12, a13, a14)) : wpX_isLaying post (3, (nI g), (nI h), pn, bs, hb, a1, a2, a3, a4, a5, a6, a7, a8, a9, a10, a11, a12, a13, a14) (nI d) := by
  refine pk_loop (σ := Nat → Int32) (fun n i s => wX_isLaying_2 post (nI d) 3 (nI g) (nI h) pn bs hb n (nI i) a1 a2 a3 a4 a5 a6 a7 a8 s a10 a11 a12 a13 a14) (fun i s => ∀ j, j < i → s j = nI (7 + π j)) 3 0 a9 (by omega) (fun j hj => absurd hj (by omega)) ?_ ?_
  · intro n s h
    exact pk_le 3 3 (fun _ => tg_il72 hg hh hp h (fun k => H1 k s) (fun k => H0 k s)) (fun z => absurd z (by omega))
  · intro n i s hi h hw
    refine pk_le 3 i (fun z => absurd z (by omega)) (fun _ => tg_il12 hd hi (hp i hi) (hπ i hi) (fun b9 k1 k2 => hw b9 (fun j hj => ?_)))
    by_cases ej : j = i
    · subst ej; exact k2
    · rw [k1 j (by omega)]; exact h j (by omega)
end
end
section
/-! the next try, the first classes -/
section
variable {gX gY pn : Int32} {bs : Int64} {hb : Int32} {a1 : Nat → Int32} {a2 : Nat → Int32} {a3 : Nat → Int32} {a4 : Nat → Int32} {a5 : Nat → Int32} {a6 : Nat → Int64} {a7 : Nat → Int32} {a8 : Nat → Int32} {a9 : Nat → Int32} {a10 : Nat → Int32} {a11 : Nat → Int32} {a12 : Nat → Int64} {a13 : Nat → Int64} {a14 : Nat → Int32}
variable {g h : Nat}
/-- the classes one depth further: the point x of the one side and y of the other set apart -/
def tg_TN (d x y : Nat) (a4 b4 : Nat → Int32) : Prop :=
  (∀ u v, u < 14 → v < 14 → (b4 (14 * (d + 1) + u) = b4 (14 * (d + 1) + v) ↔ a4 (14 * d + u) = a4 (14 * d + v) ∧ ((u = x ∨ u = y) ↔ (v = x ∨ v = y)))) ∧
  tg_rng (d + 1) b4 ∧ (∀ k, k < 14 * (d + 1) → b4 k = a4 k)
theorem tg_ix14 (d v : Nat) : 14 * nI d + 14 + nI v = nI (14 * (d + 1) + v) := by
  rw [show (14 : Int32) * nI d + 14 = nI (14 * d + 14) from tg_ix d 14, nI_add]
  congr 1
def tg_xy (x y v : Nat) : Int64 := if v = x ∨ v = y then 1 else 0
theorem tg_xyI {x y u v : Nat} : tg_xy x y u = tg_xy x y v ↔ ((u = x ∨ u = y) ↔ (v = x ∨ v = y)) := by
  unfold tg_xy
  by_cases h1 : u = x ∨ u = y
  · by_cases h2 : v = x ∨ v = y
    · rw [if_pos h1, if_pos h2]
      exact ⟨fun _ => ⟨fun _ => h2, fun _ => h1⟩, fun _ => rfl⟩
    · rw [if_pos h1, if_neg h2]
      exact ⟨fun z => absurd z (by decide), fun z => absurd (z.mp h1) h2⟩
  · by_cases h2 : v = x ∨ v = y
    · rw [if_neg h1, if_pos h2]
      exact ⟨fun z => absurd z (by decide), fun z => absurd (z.mpr h2) h1⟩
    · rw [if_neg h1, if_neg h2]
      exact ⟨fun _ => ⟨fun z => absurd z h1, fun z => absurd z h2⟩, fun _ => rfl⟩
theorem tg_mkTN {d x y : Nat} {a4 c4 b4 : Nat → Int32} {m : Nat → Int64} (h1 : ∀ v, v < 14 → c4 (14 * (d + 1) + v) = a4 (14 * d + v)) (h2 : ∀ k, k < 14 * (d + 1) → c4 k = a4 k) (h3 : ∀ v, v < 14 → m v = tg_xy x y v) (hr : tg_RG (d + 1) c4 m b4) : tg_TN d x y a4 b4 := by
  obtain ⟨r1, r2, r3⟩ := hr
  refine ⟨fun u v hu hv => ?_, r2, fun k hk => by rw [r3 k (Or.inl hk), h2 k hk]⟩
  rw [r1 u v hu hv, h1 u hu, h1 v hv, h3 u hu, h3 v hv, tg_xyI]
theorem tg_tn62 {post : Int32 → St2 → Prop} {d x y : Nat} (hd : d ≤ 7) (hx : x < 14) (hy : y < 14)
    (H : ∀ b4 b5 b6, tg_TN d x y a4 b4 → post 1 (3, (nI g), (nI h), pn, bs, hb, a1, a2, a3, b4, b5, b6, a7, a8, a9, a10, a11, a12, a13, a14)) :
    ∃ n, wX_tryNext_62 post (nI d) (nI x) (nI y) 3 (nI g) (nI h) pn bs hb n 0 a1 a2 a3 a4 a5 a6 a7 a8 a9 a10 a11 a12 a13 a14 := by
  refine pk_loop (σ := (Nat → Int32) × (Nat → Int64)) (fun n i s => wX_tryNext_62 post (nI d) (nI x) (nI y) 3 (nI g) (nI h) pn bs hb n (nI i) a1 a2 a3 s.1 a5 s.2 a7 a8 a9 a10 a11 a12 a13 a14) (fun i s => (∀ v, v < i → s.1 (14 * (d + 1) + v) = a4 (14 * d + v)) ∧ (∀ k, k < 14 * (d + 1) → s.1 k = a4 k) ∧ (∀ v, v < i → s.2 v = tg_xy x y v)) 14 0 (a4, a6) (by omega) ⟨fun j hj => absurd hj (by omega), fun _ _ => rfl, fun j hj => absurd hj (by omega)⟩ ?_ ?_
  · intro n s h
    refine pk_le 14 14 (fun _ => ?_) (fun z => absurd z (by omega))
    rw [nI_1]
    exact tg_regroup (by omega) (fun r b4 b5 hr => H b4 b5 s.2 (tg_mkTN h.1 h.2.1 h.2.2 hr))
  · intro n i s hi h hw
    obtain ⟨c4, c6⟩ := s
    obtain ⟨h1, h2, h3⟩ := h
    dsimp only at h1 h2 h3
    have e2 : (nI i).toNatClampNeg = i := nI_clamp (by omega)
    refine pk_le 14 i (fun z => absurd z (by omega)) (fun _ => ⟨pk_in (14 * d + i) 128 (by omega) (tg_ix d i), pk_in (14 * (d + 1) + i) 128 (by omega) (tg_ix14 d i), ?_⟩)
    rw [pk_cl _ (tg_ix d i), pk_cl _ (tg_ix14 d i)]
    have E : c4 (14 * d + i) = a4 (14 * d + i) := h2 _ (by omega)
    have K : ∀ m, m = tg_xy x y i → wX_tryNext_62 post (nI d) (nI x) (nI y) 3 (nI g) (nI h) pn bs hb n (nI (i + 1)) a1 a2 a3 (upd c4 (14 * (d + 1) + i) (c4 (14 * d + i))) a5 (vp_updL c6 i m) a7 a8 a9 a10 a11 a12 a13 a14 := by
      intro m hm
      refine hw (upd c4 (14 * (d + 1) + i) (c4 (14 * d + i)), vp_updL c6 i m) ⟨fun v hv => ?_, fun k hk => ?_, fun v hv => ?_⟩
      · show upd c4 (14 * (d + 1) + i) (c4 (14 * d + i)) (14 * (d + 1) + v) = a4 (14 * d + v)
        by_cases ev : v = i
        · subst ev; rw [pk_us]; exact E
        · rw [pk_un (by omega)]; exact h1 v (by omega)
      · show upd c4 (14 * (d + 1) + i) (c4 (14 * d + i)) k = a4 k
        rw [pk_un (by omega)]; exact h2 k hk
      · show vp_updL c6 i m v = tg_xy x y v
        by_cases ev : v = i
        · subst ev; rw [pk_uLs]; exact hm
        · rw [pk_uLn ev]; exact h3 v (by omega)
    refine nm_e (pk_eq i x (fun e => ⟨pk_in i 14 hi, ?_⟩) (fun e => pk_eq i y (fun e' => ⟨pk_in i 14 hi, ?_⟩) (fun e' => ⟨pk_in i 14 hi, ?_⟩)))
    · rw [e2]
      exact nm_e (nm_r (nI_1 i) (K 1 (by rw [tg_xy, if_pos (Or.inl e)])))
    · rw [e2]
      exact nm_e (nm_r (nI_1 i) (K 1 (by rw [tg_xy, if_pos (Or.inr e')])))
    · rw [e2]
      exact nm_e (nm_r (nI_1 i) (K 0 (by rw [tg_xy, if_neg (fun z => z.elim e e')])))
theorem tg_tryNext {post : Int32 → St2 → Prop} {d x y0 : Nat} (hd : d ≤ 7) (hx : x < 3) (h7 : a7 d = nI x) (h8 : a8 d = nI y0) (hy : 7 ≤ y0) (hy' : y0 ≤ 10)
    (H0 : (∀ y, y0 ≤ y → y < 10 → ¬ a4 (14 * d + y) = a4 (14 * d + x)) → post 0 (3, (nI g), (nI h), pn, bs, hb, a1, a2, a3, a4, a5, a6, a7, a8, a9, a10, a11, a12, a13, a14))
    (H1 : ∀ y, y0 ≤ y → y < 10 → a4 (14 * d + y) = a4 (14 * d + x) → (∀ y', y0 ≤ y' → y' < y → ¬ a4 (14 * d + y') = a4 (14 * d + x)) → ∀ b4 b5 b6, tg_TN d x y a4 b4 → post 1 (3, (nI g), (nI h), pn, bs, hb, a1, a2, a3, b4, b5, b6, a7, (upd a8 d (nI (y + 1))), a9, a10, a11, a12, a13, a14)) :
    wpX_tryNext post (3, (nI g), (nI h), pn, bs, hb, a1, a2, a3, a4, a5, a6, a7, a8, a9, a10, a11, a12, a13, a14) (nI d) := by
  have ed : (nI d).toNatClampNeg = d := nI_clamp (by omega)
  refine ⟨pk_in d 9 (by omega), ?_⟩
  rw [ed]
  refine nm_r h7 ⟨pk_in d 9 (by omega), ?_⟩
  refine nm_r h8 (pk_loop (σ := Unit) (fun n i _ => wX_tryNext_14 post (nI d) (nI x) 3 (nI g) (nI h) pn bs hb a1 a2 a3 a4 a5 a6 a7 a8 a9 a10 a11 a12 a13 a14 n (nI i)) (fun i _ => y0 ≤ i ∧ ∀ y, y0 ≤ y → y < i → ¬ a4 (14 * d + y) = a4 (14 * d + x)) 10 y0 () hy' ⟨Nat.le_refl _, fun y h1 h2 => absurd h2 (by omega)⟩ ?_ ?_)
  · intro n _ h
    exact pk_le 10 10 (fun _ => H0 h.2) (fun z => absurd z (by omega))
  · intro n i _ hi h hw
    obtain ⟨k1, k2⟩ := h
    refine pk_le 10 i (fun z => absurd z (by omega)) (fun _ => ⟨pk_in (14 * d + i) 128 (by omega) (tg_ix d i), pk_in (14 * d + x) 128 (by omega) (tg_ix d x), ?_⟩)
    rw [pk_cl _ (tg_ix d i), pk_cl _ (tg_ix d x)]
    refine br_c (fun e => ⟨pk_in d 9 (by omega), ?_⟩) (fun e => nm_r (nI_1 i) (hw () ⟨by omega, fun y h1 h2 => ?_⟩))
    · rw [ed, nI_1]
      exact nm_e (tg_tn62 hd (by omega) (by omega) (fun b4 b5 b6 ht => H1 i k1 hi e k2 b4 b5 b6 ht))
    · by_cases ey : y = i
      · subst ey; exact e
      · exact k2 y h1 (by omega)
/-! the first classes -/
def tg_s (p : Nat → Nat) : Nat → Nat → Nat
  | 0, _ => 0
  | k + 1, x => tg_s p k x + if p k = x then k + 1 else 0
theorem tg_s_le (p : Nat → Nat) (x : Nat) : ∀ k, k ≤ 7 → tg_s p k x ≤ 7 * k := by
  intro k
  induction k with
  | zero => intro _; exact Nat.le_refl 0
  | succ k ih =>
    intro hk
    have := ih (by omega)
    show tg_s p k x + (if p k = x then k + 1 else 0) ≤ 7 * (k + 1)
    split <;> omega
/-- the pins -/
def tg_pm (a2 a3 : Nat → Int32) (K : Nat) (p q : Nat → Nat) : Prop := ∀ k, k < K → a2 k = nI (p k) ∧ p k < 3 ∧ a3 k = nI (q k) ∧ q k < 3
theorem tg_sc60 {post : St2 → Prop} {K : Nat} {p q : Nat → Nat} (hK : K ≤ 7) (hm : tg_pm a2 a3 K p q) (h0 : ∀ x, x < 3 → a6 x = 0 ∧ a6 (7 + x) = 0)
    (H : ∀ b4 b5 b6, tg_RG 0 a4 b6 b4 → (∀ x, x < 3 → b6 x = lN (4 * tg_s p K x) ∧ b6 (7 + x) = lN (4 * tg_s q K x)) → post (3, (nI g), (nI h), (nI K), bs, hb, a1, a2, a3, b4, b5, b6, a7, a8, a9, a10, a11, a12, a13, a14)) :
    ∃ n, wX_startClasses_60 post 3 (nI g) (nI h) (nI K) bs hb n 0 a1 a2 a3 a4 a5 a6 a7 a8 a9 a10 a11 a12 a13 a14 := by
  refine pk_loop (σ := Nat → Int64) (fun n i s => wX_startClasses_60 post 3 (nI g) (nI h) (nI K) bs hb n (nI i) a1 a2 a3 a4 a5 s a7 a8 a9 a10 a11 a12 a13 a14) (fun i s => ∀ x, x < 3 → s x = lN (4 * tg_s p i x) ∧ s (7 + x) = lN (4 * tg_s q i x)) K 0 a6 (by omega) (fun x hx => ⟨(h0 x hx).1, (h0 x hx).2⟩) ?_ ?_
  · intro n s h
    exact pk_le K K (fun _ => tg_regroup (d := 0) (by omega) (fun r b4 b5 hr => H b4 b5 s hr h)) (fun z => absurd z (by omega))
  · intro n i s hi h hw
    obtain ⟨m1, m2, m3, m4⟩ := hm i hi
    have e2 : (nI i).toNatClampNeg = i := nI_clamp (by omega)
    have ep : (nI (p i)).toNatClampNeg = p i := nI_clamp (by omega)
    have eq' : (7 + nI (q i)).toNatClampNeg = 7 + q i := pk_cl _ (nI_add 7 (q i))
    have el : (4 * (nI i + 1)).toInt64 = lN (4 * (i + 1)) := by
      rw [nI_1, show (4 : Int32) = nI 4 from rfl, pk_mul, nI_l (by omega)]
    refine pk_le K i (fun z => absurd z (by omega)) (fun _ => ⟨pk_in i 7 (by omega), ?_⟩)
    rw [e2, m1, m3, ep]
    refine ⟨pk_in (p i) 14 (by omega), pk_in (p i) 14 (by omega), nm_e ⟨pk_in i 7 (by omega), pk_in (7 + q i) 14 (by omega) (nI_add 7 (q i)), pk_in (7 + q i) 14 (by omega) (nI_add 7 (q i)), ?_⟩⟩
    rw [eq', el]
    refine nm_e (nm_r (nI_1 i) (hw _ (fun x hx => ⟨?_, ?_⟩)))
    · rw [pk_uLn (by omega)]
      by_cases ex : p i = x
      · subst ex
        rw [pk_uLs, (h _ hx).1, lN_add]
        show _ = lN (4 * (tg_s p i (p i) + if p i = p i then i + 1 else 0))
        rw [if_pos rfl]
        congr 1
        omega
      · rw [pk_uLn (fun z => ex z.symm), (h x hx).1]
        show _ = lN (4 * (tg_s p i x + if p i = x then i + 1 else 0))
        rw [if_neg ex, Nat.add_zero]
    · by_cases ex : q i = x
      · subst ex
        rw [pk_uLs, pk_uLn (by omega), (h _ hx).2, lN_add]
        show _ = lN (4 * (tg_s q i (q i) + if q i = q i then i + 1 else 0))
        rw [if_pos rfl]
        congr 1
        omega
      · rw [pk_uLn (by omega), pk_uLn (by omega), (h x hx).2]
        show _ = lN (4 * (tg_s q i x + if q i = x then i + 1 else 0))
        rw [if_neg ex, Nat.add_zero]
theorem tg_sc26 {post : St2 → Prop} {J2 : Int32 → (Nat → Int32) → (Nat → Int32) → (Nat → Int32) → (Nat → Int32) → (Nat → Int32) → (Nat → Int64) → (Nat → Int32) → (Nat → Int32) → (Nat → Int32) → (Nat → Int32) → (Nat → Int32) → (Nat → Int64) → (Nat → Int64) → (Nat → Int32) → Prop} {v : Nat} {z : Int32} (hg : g ≤ 1) (hh : h ≤ 1) (hz : ∀ v, v < 14 → tg_U v → tg_sh a1 g h v v = 0) (hv : v < 14)
    (H : J2 (nI (v + 1)) a1 a2 a3 (upd a4 v z) a5 (vp_updL a6 v 0) a7 a8 a9 a10 a11 a12 a13 a14) : wX_startClasses_26 post J2 (nI v) z (nI v) 3 (nI g) (nI h) pn bs hb a1 a2 a3 a4 a5 a6 a7 a8 a9 a10 a11 a12 a13 a14 := by
  have e2 : (nI v).toNatClampNeg = v := nI_clamp (by omega)
  refine ⟨pk_in v 128 (by omega), ?_⟩
  rw [e2]
  refine nm_e (tg_inU hv (fun hU => br_f (by decide) (tg_shade hg hh hv hv Iff.rfl ⟨pk_in v 14 hv, ?_⟩)) (fun hU => br_t rfl ⟨pk_in v 14 hv, ?_⟩))
  · rw [hz v hv hU]
    exact nm_e (nm_r (nI_1 v) H)
  · exact nm_e (nm_r (nI_1 v) H)
theorem tg_startClasses {post : St2 → Prop} {K : Nat} {p q : Nat → Nat} (hg : g ≤ 1) (hh : h ≤ 1) (hz : ∀ v, v < 14 → tg_U v → tg_sh a1 g h v v = 0) (hK : K ≤ 7) (hm : tg_pm a2 a3 K p q)
    (H : ∀ b4 b5 b6, tg_rng 0 b4 → (∀ x y, x < 3 → y < 3 → (b4 (14 * 0 + x) = b4 (14 * 0 + (7 + y)) ↔ tg_s p K x = tg_s q K y)) → post (3, (nI g), (nI h), (nI K), bs, hb, a1, a2, a3, b4, b5, b6, a7, a8, a9, a10, a11, a12, a13, a14)) :
    wpX_startClasses post (3, (nI g), (nI h), (nI K), bs, hb, a1, a2, a3, a4, a5, a6, a7, a8, a9, a10, a11, a12, a13, a14) := by
  refine pk_loop (σ := (Nat → Int32) × (Nat → Int64)) (fun n i s => wX_startClasses_2 post 3 (nI g) (nI h) (nI K) bs hb n (nI i) a1 a2 a3 s.1 a5 s.2 a7 a8 a9 a10 a11 a12 a13 a14) (fun i s => (∀ v, v < i → tg_U v → s.1 v = 0) ∧ (∀ v, v < i → s.2 v = 0)) 14 0 (a4, a6) (by omega) ⟨fun j hj => absurd hj (by omega), fun j hj => absurd hj (by omega)⟩ ?_ ?_
  · intro n s h
    refine pk_le 14 14 (fun _ => tg_sc60 hK hm (fun x hx => ⟨h.2 x (by omega), h.2 (7 + x) (by omega)⟩) (fun b4 b5 b6 hr hb => H b4 b5 b6 hr.2.1 (fun x y hx hy => ?_))) (fun z => absurd z (by omega))
    have b1 := tg_s_le p x K hK
    have b2 := tg_s_le q y K hK
    have c1 : s.1 (14 * 0 + x) = 0 := h.1 (14 * 0 + x) (by omega) (Or.inl (by omega))
    have c2 : s.1 (14 * 0 + (7 + y)) = 0 := h.1 (14 * 0 + (7 + y)) (by omega) (Or.inr (by omega))
    rw [hr.1 x (7 + y) (by omega) (by omega), c1, c2, (hb x hx).1, (hb y hy).2, pk_lEQ (by omega) (by omega)]
    constructor
    · intro e; omega
    · intro e; exact ⟨rfl, by omega⟩
  · intro n i s hi h hw
    obtain ⟨c4, c6⟩ := s
    obtain ⟨h1, h2⟩ := h
    dsimp only at h1 h2
    have K0 : ∀ z, (tg_U i → z = 0) → wX_startClasses_2 post 3 (nI g) (nI h) (nI K) bs hb n (nI (i + 1)) a1 a2 a3 (upd c4 i z) a5 (vp_updL c6 i 0) a7 a8 a9 a10 a11 a12 a13 a14 := by
      intro z hz0
      refine hw (upd c4 i z, vp_updL c6 i 0) ⟨fun v hv hU => ?_, fun v hv => ?_⟩
      · show upd c4 i z v = 0
        by_cases ev : v = i
        · subst ev; rw [pk_us]; exact hz0 hU
        · rw [pk_un ev]; exact h1 v (by omega) hU
      · show vp_updL c6 i 0 v = 0
        by_cases ev : v = i
        · subst ev; rw [pk_uLs]
        · rw [pk_uLn ev]; exact h2 v (by omega)
    exact pk_le 14 i (fun z => absurd z (by omega)) (fun _ => tg_inU hi (fun hU => br_f (by decide) (tg_sc26 hg hh hz hi (K0 0 (fun _ => rfl)))) (fun hU => br_t rfl (tg_sc26 hg hh hz hi (K0 (nI i) (fun z => absurd z hU)))))
end
end
section
/-! the search for one laying -/
section
variable {gX gY pn : Int32} {bs : Int64} {hb : Int32} {a1 : Nat → Int32} {a2 : Nat → Int32} {a3 : Nat → Int32} {a4 : Nat → Int32} {a5 : Nat → Int32} {a6 : Nat → Int64} {a7 : Nat → Int32} {a8 : Nat → Int32} {a9 : Nat → Int32} {a10 : Nat → Int32} {a11 : Nat → Int32} {a12 : Nat → Int64} {a13 : Nat → Int64} {a14 : Nat → Int32}
variable {g h : Nat}
def tg_Lay (sh : Nat → Nat → Int32) (C : Nat → Int32) : Prop := ∃ π, tg_L sh π ∧ tg_con C π
theorem tg_RFlay {sh : Nat → Nat → Int32} {d : Nat} {a4 b4 : Nat → Int32} (hr : tg_RF sh d a4 b4) {π : Nat → Nat} (hL : tg_L sh π) (hC : tg_con (fun j => b4 (14 * d + j)) π) : tg_con (fun j => a4 (14 * d + j)) π := fun v hv => by
  have hp := hL.1.1 v hv
  exact hr.1 v (7 + π v) (by omega) (by omega) (hC v hv)
theorem tg_isoc {sh : Nat → Nat → Int32} {π π' : Nat → Nat} (h : tg_iso sh π) (e : ∀ v, v < 3 → π v = π' v) : tg_iso sh π' := fun u v hu hv => by
  rw [← e u hu, ← e v hv]
  exact h u v hu hv
theorem tg_enter {post : Int32 → St2 → Prop} {d m s : Nat} (hg : g ≤ 1) (hh : h ≤ 1) (hd : d ≤ 7) (hs : m + 1 + s ≤ 1000) (hr : tg_rng d a4)
    (Hy : tg_Lay (tg_sh a1 g h) (fun j => a4 (14 * d + j)) → ∀ (b4 b5 : Nat → Int32) (b6 : Nat → Int64) (b7 b8 b9 : Nat → Int32), post 1 (3, (nI g), (nI h), pn, bs, hb, a1, a2, a3, b4, b5, b6, b7, b8, b9, a10, a11, a12, a13, a14))
    (Hn : ¬ tg_Lay (tg_sh a1 g h) (fun j => a4 (14 * d + j)) → ∀ (b4 b5 : Nat → Int32) (b6 : Nat → Int64) (b9 : Nat → Int32), (∀ k, k < 14 * d → b4 k = a4 k) → wX_exists_10 post m (nI d - 1) 0 (nI (s + 1)) 3 (nI g) (nI h) pn bs hb a1 a2 a3 b4 b5 b6 a7 a8 b9 a10 a11 a12 a13 a14)
    (H2 : ∀ (b4 b5 : Nat → Int32) (b6 : Nat → Int64) (x : Nat), tg_RF (tg_sh a1 g h) d a4 b4 → x < 3 → tg_S (fun j => b4 (14 * d + j)) x → wX_exists_10 post m (nI d) 0 (nI (s + 1)) 3 (nI g) (nI h) pn bs hb a1 a2 a3 b4 b5 b6 (upd a7 d (nI x)) (upd a8 d (nI 7)) a9 a10 a11 a12 a13 a14) :
    wX_exists_10 post (m + 1) (nI d) 1 (nI s) 3 (nI g) (nI h) pn bs hb a1 a2 a3 a4 a5 a6 a7 a8 a9 a10 a11 a12 a13 a14 := by
  refine pk_le 60000 s (fun z => absurd z (by omega)) (fun _ => br_f (nI_pos (by omega)) (br_f (by decide) (tg_refine hg hh (by omega) hr (fun b4 b5 b6 hRF => ?_))))
  refine tg_balance (by omega) (fun c ne => ?_) (fun h1 => ?_) (fun c h2 => ?_)
  · refine br_f (by decide) (br_f (by decide) (nm_r (tg_m1 d) (nm_r (nI_1 s) (Hn ?_ b4 b5 b6 a9 (fun k hk => hRF.2.2.2 k (Or.inl hk))))))
    rintro ⟨π, hL, hC⟩
    exact ne (tg_cnt_con hL.1 (hRF.2.1 π hL hC))
  · obtain ⟨π, hb, hu⟩ := tg_one hRF.2.2.1 h1
    refine br_t rfl (tg_isLaying hg hh (by omega) hb.1 hu (fun hi b9 => br_f (by decide) (Hy ?_ b4 b5 b6 a7 a8 b9)) (fun hi b9 => br_t rfl (br_f (by decide) (nm_r (tg_m1 d) (nm_r (nI_1 s) (Hn ?_ b4 b5 b6 b9 (fun k hk => hRF.2.2.2 k (Or.inl hk))))))))
    · refine ⟨π, ⟨hb, hi⟩, tg_RFlay hRF ⟨hb, hi⟩ (fun v hv => ?_)⟩
      exact ((hu v hv (π v) (hb.1 v hv)).mpr rfl).symm
    · rintro ⟨π', hL, hC⟩
      have hC' := hRF.2.1 π' hL hC
      exact hi (tg_isoc hL.2 (fun v hv => (hu v hv (π' v) (hL.1.1 v hv)).mp (hC' v hv).symm))
  · obtain ⟨u, v, hu, hv, ne, e⟩ := tg_cnt_two h2
    exact br_f (by decide) (br_t rfl (tg_chooseX (by omega) ⟨v, hv, u, hu, ne, e⟩ (fun x hx hS => nm_r (nI_1 s) (H2 b4 b5 b6 x hRF hx hS))))
/-- a depth entered within T steps: a laying is found, or the search comes back with nothing lost -/
def tg_P (post : Int32 → St2 → Prop) (g h : Nat) (pn : Int32) (bs : Int64) (hb : Int32) (a1 a2 a3 a10 a11 : Nat → Int32) (a12 a13 : Nat → Int64) (a14 : Nat → Int32) (d T : Nat) (A : (Nat → Int32) → Prop) : Prop :=
  ∀ (n s : Nat) (a4 a5 : Nat → Int32) (a6 : Nat → Int64) (a7 a8 a9 : Nat → Int32), T ≤ n → n + s ≤ 1000 → A (fun j => a4 (14 * d + j)) → tg_rng d a4 →
    (tg_Lay (tg_sh a1 g h) (fun j => a4 (14 * d + j)) → ∀ (b4 b5 : Nat → Int32) (b6 : Nat → Int64) (b7 b8 b9 : Nat → Int32), post 1 (3, (nI g), (nI h), pn, bs, hb, a1, a2, a3, b4, b5, b6, b7, b8, b9, a10, a11, a12, a13, a14)) →
    (¬ tg_Lay (tg_sh a1 g h) (fun j => a4 (14 * d + j)) → ∀ (n' s' : Nat), ∀ (b4 b5 : Nat → Int32) (b6 : Nat → Int64) (b7 b8 b9 : Nat → Int32), n ≤ n' + T → n' + s' = n + s → (∀ k, k < 14 * d → b4 k = a4 k) → (∀ k, k < d → b7 k = a7 k ∧ b8 k = a8 k) → wX_exists_10 post n' (nI d - 1) 0 (nI s') 3 (nI g) (nI h) pn bs hb a1 a2 a3 b4 b5 b6 b7 b8 b9 a10 a11 a12 a13 a14) →
    wX_exists_10 post n (nI d) 1 (nI s) 3 (nI g) (nI h) pn bs hb a1 a2 a3 a4 a5 a6 a7 a8 a9 a10 a11 a12 a13 a14
def tg_D (C : Nat → Int32) : Prop := ∀ u v, u < 3 → v < 3 → C u = C v → u = v
theorem tg_leaf {post : Int32 → St2 → Prop} {d : Nat} (hg : g ≤ 1) (hh : h ≤ 1) (hd : d ≤ 7) : tg_P post g h pn bs hb a1 a2 a3 a10 a11 a12 a13 a14 d 1 tg_D := by
  intro n s a4 a5 a6 a7 a8 a9 hn hs hA hr Hy Hno
  obtain ⟨m, rfl⟩ : ∃ m, n = m + 1 := ⟨n - 1, by omega⟩
  refine tg_enter hg hh hd hs hr Hy (fun hl b4 b5 b6 b9 hk => Hno hl m (s + 1) b4 b5 b6 a7 a8 b9 (by omega) (by omega) hk (fun k _ => ⟨rfl, rfl⟩)) (fun b4 b5 b6 x hRF hx hS => ?_)
  obtain ⟨u, hu, hne, e⟩ := hS
  exact absurd (hA u x hu hx (hRF.1 u x (by omega) (by omega) e)) hne
theorem tg_TNc {d x y : Nat} {a4 c4 z4 : Nat → Int32} (h : ∀ k, k < 14 * (d + 1) → c4 k = a4 k) (ht : tg_TN d x y c4 z4) : tg_TN d x y a4 z4 := by
  refine ⟨fun u v hu hv => ?_, ht.2.1, fun k hk => by rw [ht.2.2 k hk, h k hk]⟩
  rw [ht.1 u v hu hv, h (14 * d + u) (by omega), h (14 * d + v) (by omega)]
theorem tg_conc {d : Nat} {a4 c4 : Nat → Int32} {π : Nat → Nat} (h : ∀ k, k < 14 * (d + 1) → c4 k = a4 k) (hb : tg_bij π) (hC : tg_con (fun j => c4 (14 * d + j)) π) : tg_con (fun j => a4 (14 * d + j)) π := fun v hv => by
  have hp := hb.1 v hv
  have e := hC v hv
  dsimp only at e
  rw [h _ (by omega), h _ (by omega)] at e
  exact e
theorem tg_TNlay {sh : Nat → Nat → Int32} {d x y : Nat} {a4 b4 : Nat → Int32} (ht : tg_TN d x y a4 b4) {π : Nat → Nat} (hb : tg_bij π) (hC : tg_con (fun j => b4 (14 * (d + 1) + j)) π) : tg_con (fun j => a4 (14 * d + j)) π := fun v hv => by
  have hp := hb.1 v hv
  exact ((ht.1 v (7 + π v) (by omega) (by omega)).mp (hC v hv)).1
theorem tg_TNcon {d x y : Nat} {a4 b4 : Nat → Int32} (ht : tg_TN d x y a4 b4) {π : Nat → Nat} (hx : x < 3) (hy : y = 7 + π x) (hb : tg_bij π) (hC : tg_con (fun j => a4 (14 * d + j)) π) : tg_con (fun j => b4 (14 * (d + 1) + j)) π := fun v hv => by
  have hp := hb.1 v hv
  refine (ht.1 v (7 + π v) (by omega) (by omega)).mpr ⟨hC v hv, ⟨fun z => ?_, fun z => ?_⟩⟩
  · have e : v = x := by omega
    rw [e]
    exact Or.inr hy.symm
  · exact Or.inl (hb.2 v x hv hx (by omega))
theorem tg_try {post : Int32 → St2 → Prop} {d T x : Nat} {A' : (Nat → Int32) → Prop} (hd : d ≤ 6) (hx : x < 3) (hP : tg_P post g h pn bs hb a1 a2 a3 a10 a11 a12 a13 a14 (d + 1) T A') :
    ∀ (r y0 n s : Nat) (a4 a5 : Nat → Int32) (a6 : Nat → Int64) (a7 a8 a9 : Nat → Int32), y0 + r = 10 → 7 ≤ y0 → r * (T + 1) + 1 ≤ n → n + s ≤ 1000 → (∀ c4 y, 7 ≤ y → tg_TN d x y a4 c4 → A' (fun j => c4 (14 * (d + 1) + j))) → a7 d = nI x → a8 d = nI y0 →
      (∀ π, tg_L (tg_sh a1 g h) π → tg_con (fun j => a4 (14 * d + j)) π → y0 ≤ 7 + π x) →
      (tg_Lay (tg_sh a1 g h) (fun j => a4 (14 * d + j)) → ∀ (b4 b5 : Nat → Int32) (b6 : Nat → Int64) (b7 b8 b9 : Nat → Int32), post 1 (3, (nI g), (nI h), pn, bs, hb, a1, a2, a3, b4, b5, b6, b7, b8, b9, a10, a11, a12, a13, a14)) →
      (¬ tg_Lay (tg_sh a1 g h) (fun j => a4 (14 * d + j)) → ∀ (n' s' : Nat), ∀ (b4 b5 : Nat → Int32) (b6 : Nat → Int64) (b7 b8 b9 : Nat → Int32), n ≤ n' + (r * (T + 1) + 1) → n' + s' = n + s → (∀ k, k < 14 * d → b4 k = a4 k) → (∀ k, k < d → b7 k = a7 k ∧ b8 k = a8 k) → wX_exists_10 post n' (nI d - 1) 0 (nI s') 3 (nI g) (nI h) pn bs hb a1 a2 a3 b4 b5 b6 b7 b8 b9 a10 a11 a12 a13 a14) →
      wX_exists_10 post n (nI d) 0 (nI s) 3 (nI g) (nI h) pn bs hb a1 a2 a3 a4 a5 a6 a7 a8 a9 a10 a11 a12 a13 a14 := by
  intro r
  induction r using Nat.strongRecOn with
  | ind r ih =>
    intro y0 n s a4 a5 a6 a7 a8 a9 hr hy hn hs hA h7 h8 hlow Hy Hno
    obtain ⟨m, rfl⟩ : ∃ m, n = m + 1 := ⟨n - 1, by omega⟩
    refine pk_le 60000 s (fun z => absurd z (by omega)) (fun _ => br_f (nI_pos (by omega)) (br_t rfl (tg_tryNext (by omega) hx h7 h8 hy (by omega) (fun hno => ?_) (fun y y1 y2 ye ymin b4 b5 b6 hT => ?_))))
    · refine br_t rfl (nm_r (tg_m1 d) (nm_r (nI_1 s) (Hno ?_ m (s + 1) a4 a5 a6 a7 a8 a9 (by omega) (by omega) (fun _ _ => rfl) (fun _ _ => ⟨rfl, rfl⟩))))
      rintro ⟨π, hL, hC⟩
      have hp := hL.1.1 x hx
      exact hno (7 + π x) (hlow π hL hC) (by omega) (hC x hx).symm
    · have hmul : (10 - (y + 1) + 1) * (T + 1) ≤ r * (T + 1) := Nat.mul_le_mul_right (T + 1) (by omega)
      rw [Nat.succ_mul] at hmul
      refine br_f (by decide) (nm_r (nI_1 d) (nm_r (nI_1 s) (hP m (s + 1) b4 b5 b6 a7 (upd a8 d (nI (y + 1))) a9 (by omega) (by omega) (hA b4 y (by omega) hT) hT.2.1 (fun hl => ?_) (fun hl n' s' c4 c5 c6 c7 c8 c9 q1 q2 q3 q4 => ?_))))
      · obtain ⟨π, hL, hC⟩ := hl
        exact Hy ⟨π, hL, tg_TNlay (sh := tg_sh a1 g h) hT hL.1 hC⟩
      · rw [nI_pred]
        have qa : ∀ k, k < 14 * (d + 1) → c4 k = a4 k := fun k hk => by rw [q3 k hk, hT.2.2 k hk]
        have qb : ∀ k, k < 14 * (d + 1) → a4 k = c4 k := fun k hk => (qa k hk).symm
        refine ih (10 - (y + 1)) (by omega) (y + 1) n' s' c4 c5 c6 c7 c8 c9 (by omega) (by omega) (by omega) (by omega) (fun z4 y' hy' ht => hA z4 y' hy' (tg_TNc qa ht)) (by rw [(q4 d (by omega)).1]; exact h7) (by rw [(q4 d (by omega)).2]; exact pk_us) (fun π hL hC => ?_) (fun hl' => ?_) (fun hl' n'' s'' e4 e5 e6 e7 e8 e9 w1 w2 w3 w4 => ?_)
        · have hC' := tg_conc qa hL.1 hC
          have l1 := hlow π hL hC'
          have hp := hL.1.1 x hx
          by_cases l2 : 7 + π x < y
          · exact absurd (hC' x hx).symm (ymin (7 + π x) l1 l2)
          · by_cases l3 : y = 7 + π x
            · exact absurd ⟨π, hL, tg_TNcon hT hx l3 hL.1 hC'⟩ hl
            · omega
        · obtain ⟨π, hL, hC⟩ := hl'
          exact Hy ⟨π, hL, tg_conc qa hL.1 hC⟩
        · refine Hno (fun hl2 => ?_) n'' s'' e4 e5 e6 e7 e8 e9 (by omega) (by omega) (fun k hk => by rw [w3 k hk, qa k (by omega)]) (fun k hk => ⟨?_, ?_⟩)
          · obtain ⟨π, hL, hC⟩ := hl2
            exact hl' ⟨π, hL, tg_conc qb hL.1 hC⟩
          · rw [(w4 k hk).1, (q4 k (by omega)).1]
          · rw [(w4 k hk).2, (q4 k (by omega)).2, pk_un (by omega)]
theorem tg_node {post : Int32 → St2 → Prop} {d T : Nat} {A A' : (Nat → Int32) → Prop} (hg : g ≤ 1) (hh : h ≤ 1) (hd : d ≤ 6) (hP : tg_P post g h pn bs hb a1 a2 a3 a10 a11 a12 a13 a14 (d + 1) T A')
    (hA : ∀ a4 b4 c4 x y, A (fun j => a4 (14 * d + j)) → tg_RF (tg_sh a1 g h) d a4 b4 → x < 3 → tg_S (fun j => b4 (14 * d + j)) x → 7 ≤ y → tg_TN d x y b4 c4 → A' (fun j => c4 (14 * (d + 1) + j))) :
    tg_P post g h pn bs hb a1 a2 a3 a10 a11 a12 a13 a14 d (3 * (T + 1) + 2) A := by
  intro n s a4 a5 a6 a7 a8 a9 hn hs hA0 hr Hy Hno
  obtain ⟨m, rfl⟩ : ∃ m, n = m + 1 := ⟨n - 1, by omega⟩
  refine tg_enter hg hh (by omega) hs hr Hy (fun hl b4 b5 b6 b9 hk => Hno hl m (s + 1) b4 b5 b6 a7 a8 b9 (by omega) (by omega) hk (fun k _ => ⟨rfl, rfl⟩)) (fun b4 b5 b6 x hRF hx hS => ?_)
  refine tg_try hd hx hP 3 7 m (s + 1) b4 b5 b6 (upd a7 d (nI x)) (upd a8 d (nI 7)) a9 (by omega) (by omega) (by omega) (by omega) (fun c4 y hy ht => hA a4 b4 c4 x y hA0 hRF hx hS hy ht) pk_us pk_us (fun π _ _ => by omega) (fun hl => ?_) (fun hl n' s' c4 c5 c6 c7 c8 c9 q1 q2 q3 q4 => ?_)
  · obtain ⟨π, hL, hC⟩ := hl
    exact Hy ⟨π, hL, tg_RFlay hRF hL hC⟩
  · refine Hno (fun hl2 => ?_) n' s' c4 c5 c6 c7 c8 c9 (by omega) (by omega) (fun k hk => by rw [q3 k hk, hRF.2.2.2 k (Or.inl hk)]) (fun k hk => ⟨?_, ?_⟩)
    · obtain ⟨π, hL, hC⟩ := hl2
      exact hl ⟨π, hL, hRF.2.1 π hL hC⟩
    · rw [(q4 k hk).1, pk_un (by omega)]
    · rw [(q4 k hk).2, pk_un (by omega)]
def tg_I1 (C : Nat → Int32) : Prop := ∃ x, x < 3 ∧ ∀ u, u < 3 → u ≠ x → ¬ C u = C x
theorem tg_P1 {post : Int32 → St2 → Prop} (hg : g ≤ 1) (hh : h ≤ 1) : tg_P post g h pn bs hb a1 a2 a3 a10 a11 a12 a13 a14 1 8 tg_I1 := by
  refine tg_node (T := 1) hg hh (by omega) (tg_leaf hg hh (by omega)) (fun a4 b4 c4 x y hI hRF hx hS hy hT u v hu hv e => ?_)
  obtain ⟨x0, hx0, hi⟩ := hI
  obtain ⟨w, hw, hwx, ew⟩ := hS
  obtain ⟨k1, k2⟩ := (hT.1 u v (by omega) (by omega)).mp e
  have hb : ∀ u, u < 3 → u ≠ x0 → ¬ b4 (14 * 1 + u) = b4 (14 * 1 + x0) := fun u hu hn z => hi u hu hn (hRF.1 u x0 (by omega) (by omega) z)
  have n0 : x0 ≠ x := fun z => by
    subst z
    exact hb w hw hwx ew
  by_cases euv : u = v
  · exact euv
  · exfalso
    have k3 : u = x ↔ v = x := ⟨fun z => by have := k2.mp (Or.inl z); omega, fun z => by have := k2.mpr (Or.inl z); omega⟩
    have k4 : u ≠ x := fun z => by have := k3.mp z; omega
    have k5 : v ≠ x := fun z => by have := k3.mpr z; omega
    have k6 : x0 = u ∨ x0 = v := by omega
    rcases k6 with z | z
    · subst z; exact hb v hv (fun z => euv z.symm) k1.symm
    · subst z; exact hb u hu euv k1
theorem tg_P0 {post : Int32 → St2 → Prop} (hg : g ≤ 1) (hh : h ≤ 1) : tg_P post g h pn bs hb a1 a2 a3 a10 a11 a12 a13 a14 0 29 (fun _ => True) := by
  refine tg_node (T := 8) hg hh (by omega) (tg_P1 hg hh) (fun a4 b4 c4 x y hI hRF hx hS hy hT => ⟨x, hx, fun u hu hn e => ?_⟩)
  have k := ((hT.1 u x (by omega) (by omega)).mp e).2.mpr (Or.inl rfl)
  omega
/-! what is sought -/
def tg_Ex (sh : Nat → Nat → Int32) (K : Nat) (p q : Nat → Nat) : Prop := ∃ π, tg_L sh π ∧ ∀ v, v < 3 → tg_s p K v = tg_s q K (π v)
theorem tg_exists0 {post : Int32 → St2 → Prop} {K : Nat} {p q : Nat → Nat} (hg : g ≤ 1) (hh : h ≤ 1) (hz : ∀ v, v < 14 → tg_U v → tg_sh a1 g h v v = 0) (hK : K ≤ 7) (hm : tg_pm a2 a3 K p q)
    (H1 : tg_Ex (tg_sh a1 g h) K p q → ∀ (b4 b5 : Nat → Int32) (b6 : Nat → Int64) (b7 b8 b9 : Nat → Int32), post 1 (3, (nI g), (nI h), (nI K), bs, hb, a1, a2, a3, b4, b5, b6, b7, b8, b9, a10, a11, a12, a13, a14)) (H0 : ¬ tg_Ex (tg_sh a1 g h) K p q → ∀ (b4 b5 : Nat → Int32) (b6 : Nat → Int64) (b7 b8 b9 : Nat → Int32), post 0 (3, (nI g), (nI h), (nI K), bs, hb, a1, a2, a3, b4, b5, b6, b7, b8, b9, a10, a11, a12, a13, a14)) : wpX_exists post (3, (nI g), (nI h), (nI K), bs, hb, a1, a2, a3, a4, a5, a6, a7, a8, a9, a10, a11, a12, a13, a14) := by
  refine tg_startClasses hg hh hz hK hm (fun b4 b5 b6 hr hb => ⟨30, ?_⟩)
  have I : ∀ π, tg_bij π → (tg_con (fun j => b4 (14 * 0 + j)) π ↔ ∀ v, v < 3 → tg_s p K v = tg_s q K (π v)) := fun π hπ =>
    ⟨fun z v hv => (hb v (π v) hv (hπ.1 v hv)).mp (z v hv), fun z v hv => (hb v (π v) hv (hπ.1 v hv)).mpr (z v hv)⟩
  refine tg_P0 hg hh 30 0 b4 b5 b6 a7 a8 a9 (by omega) (by omega) trivial hr (fun hl => H1 ?_) (fun hl n' s' c4 c5 c6 c7 c8 c9 q1 q2 q3 q4 => ?_)
  · obtain ⟨π, hL, hC⟩ := hl
    exact ⟨π, hL, (I π hL.1).mp hC⟩
  · obtain ⟨m, rfl⟩ : ∃ m, n' = m + 1 := ⟨n' - 1, by omega⟩
    refine pk_le 60000 s' (fun z => absurd z (by omega)) (fun _ => br_t (by decide) (H0 ?_ c4 c5 c6 c7 c8 c9))
    rintro ⟨π, hL, hC⟩
    exact hl ⟨π, hL, (I π hL.1).mpr hC⟩
end
end
section
/-! the six candidates, the pins, the least partner, the counts -/
section
variable {gX gY pn : Int32} {bs : Int64} {hb : Int32} {a1 : Nat → Int32} {a2 : Nat → Int32} {a3 : Nat → Int32} {a4 : Nat → Int32} {a5 : Nat → Int32} {a6 : Nat → Int64} {a7 : Nat → Int32} {a8 : Nat → Int32} {a9 : Nat → Int32} {a10 : Nat → Int32} {a11 : Nat → Int32} {a12 : Nat → Int64} {a13 : Nat → Int64} {a14 : Nat → Int32}
variable {g h : Nat}
def tg_q (i v : Nat) : Nat := ([[0, 1, 2], [0, 2, 1], [1, 0, 2], [1, 2, 0], [2, 0, 1], [2, 1, 0]].getD i []).getD v 0
theorem tg_bijq0 : ∀ i, i < 6 → (∀ v, v < 3 → tg_q i v < 3) ∧ (∀ u, u < 3 → ∀ v, v < 3 → tg_q i u = tg_q i v → u = v) := by decide
theorem tg_bijq {i : Nat} (hi : i < 6) : tg_bij (tg_q i) := ⟨(tg_bijq0 i hi).1, fun u v hu hv => (tg_bijq0 i hi).2 u hu v hv⟩
theorem tg_sixq {π : Nat → Nat} (h : tg_bij π) : ∃ i, i < 6 ∧ ∀ v, v < 3 → π v = tg_q i v := by
  have V : ∀ i a b c, (π 0 = a ∧ π 1 = b ∧ π 2 = c) → (tg_q i 0 = a ∧ tg_q i 1 = b ∧ tg_q i 2 = c) → ∀ v, v < 3 → π v = tg_q i v := by
    intro i a b c e k v hv
    have hv' : v = 0 ∨ v = 1 ∨ v = 2 := by omega
    rcases hv' with z | z | z <;> subst z
    · rw [e.1, k.1]
    · rw [e.2.1, k.2.1]
    · rw [e.2.2, k.2.2]
  rcases tg_six h with e | e | e | e | e | e
  · exact ⟨0, by omega, V 0 _ _ _ e (by decide)⟩
  · exact ⟨1, by omega, V 1 _ _ _ e (by decide)⟩
  · exact ⟨2, by omega, V 2 _ _ _ e (by decide)⟩
  · exact ⟨3, by omega, V 3 _ _ _ e (by decide)⟩
  · exact ⟨4, by omega, V 4 _ _ _ e (by decide)⟩
  · exact ⟨5, by omega, V 5 _ _ _ e (by decide)⟩
def tg_pb (K : Nat) (p q : Nat → Nat) (i : Nat) : Bool := (tg_s p K 0 == tg_s q K (tg_q i 0)) && (tg_s p K 1 == tg_s q K (tg_q i 1)) && (tg_s p K 2 == tg_s q K (tg_q i 2))
theorem tg_pbI {K : Nat} {p q : Nat → Nat} {i : Nat} : tg_pb K p q i = true ↔ ∀ v, v < 3 → tg_s p K v = tg_s q K (tg_q i v) := by
  unfold tg_pb
  rw [Bool.and_eq_true, Bool.and_eq_true, beq_iff_eq, beq_iff_eq, beq_iff_eq]
  constructor
  · rintro ⟨⟨h0, h1⟩, h2⟩ v hv
    have hv' : v = 0 ∨ v = 1 ∨ v = 2 := by omega
    rcases hv' with z | z | z <;> subst z
    · exact h0
    · exact h1
    · exact h2
  · intro h
    exact ⟨⟨h 0 (by omega), h 1 (by omega)⟩, h 2 (by omega)⟩
/-- some laying among the six, with the pins -/
def tg_exB (f : Nat → Bool) (K : Nat) (p q : Nat → Nat) : Bool := (f 0 && tg_pb K p q 0) || (f 1 && tg_pb K p q 1) || (f 2 && tg_pb K p q 2) || (f 3 && tg_pb K p q 3) || (f 4 && tg_pb K p q 4) || (f 5 && tg_pb K p q 5)
theorem tg_exBI {f : Nat → Bool} {K : Nat} {p q : Nat → Nat} : tg_exB f K p q = true ↔ ∃ i, i < 6 ∧ f i = true ∧ tg_pb K p q i = true := by
  unfold tg_exB
  simp only [Bool.or_eq_true, Bool.and_eq_true]
  constructor
  · rintro (((((h | h) | h) | h) | h) | h)
    · exact ⟨0, by omega, h⟩
    · exact ⟨1, by omega, h⟩
    · exact ⟨2, by omega, h⟩
    · exact ⟨3, by omega, h⟩
    · exact ⟨4, by omega, h⟩
    · exact ⟨5, by omega, h⟩
  · rintro ⟨i, hi, h⟩
    have hi' : i = 0 ∨ i = 1 ∨ i = 2 ∨ i = 3 ∨ i = 4 ∨ i = 5 := by omega
    rcases hi' with z | z | z | z | z | z <;> subst z
    · exact Or.inl (Or.inl (Or.inl (Or.inl (Or.inl h))))
    · exact Or.inl (Or.inl (Or.inl (Or.inl (Or.inr h))))
    · exact Or.inl (Or.inl (Or.inl (Or.inr h)))
    · exact Or.inl (Or.inl (Or.inr h))
    · exact Or.inl (Or.inr h)
    · exact Or.inr h
/-- f tells of each of the six whether it lays graph g upon graph h -/
def tg_XY (a1 : Nat → Int32) (g h : Nat) (f : Nat → Bool) : Prop := g ≤ 1 ∧ h ≤ 1 ∧ (∀ v, v < 14 → tg_U v → tg_sh a1 g h v v = 0) ∧ ∀ i, i < 6 → (f i = true ↔ tg_iso (tg_sh a1 g h) (tg_q i))
theorem tg_exI {f : Nat → Bool} {K : Nat} {p q : Nat → Nat} (hf : tg_XY a1 g h f) : tg_exB f K p q = true ↔ tg_Ex (tg_sh a1 g h) K p q := by
  rw [tg_exBI]
  constructor
  · rintro ⟨i, hi, h1, h2⟩
    exact ⟨tg_q i, ⟨tg_bijq hi, (hf.2.2.2 i hi).mp h1⟩, tg_pbI.mp h2⟩
  · rintro ⟨π, hL, hp⟩
    obtain ⟨i, hi, e⟩ := tg_sixq hL.1
    exact ⟨i, hi, (hf.2.2.2 i hi).mpr (tg_isoc hL.2 e), tg_pbI.mpr (fun v hv => by rw [hp v hv, e v hv])⟩
theorem tg_exists {post : Int32 → St2 → Prop} {K : Nat} {p q : Nat → Nat} {f : Nat → Bool} (hf : tg_XY a1 g h f) (hK : K ≤ 7) (hm : tg_pm a2 a3 K p q)
    (H1 : tg_exB f K p q = true → ∀ (b4 b5 : Nat → Int32) (b6 : Nat → Int64) (b7 b8 b9 : Nat → Int32), post 1 (3, (nI g), (nI h), (nI K), bs, hb, a1, a2, a3, b4, b5, b6, b7, b8, b9, a10, a11, a12, a13, a14)) (H0 : tg_exB f K p q = false → ∀ (b4 b5 : Nat → Int32) (b6 : Nat → Int64) (b7 b8 b9 : Nat → Int32), post 0 (3, (nI g), (nI h), (nI K), bs, hb, a1, a2, a3, b4, b5, b6, b7, b8, b9, a10, a11, a12, a13, a14)) : wpX_exists post (3, (nI g), (nI h), (nI K), bs, hb, a1, a2, a3, a4, a5, a6, a7, a8, a9, a10, a11, a12, a13, a14) := by
  refine tg_exists0 hf.1 hf.2.1 hf.2.2.1 hK hm (fun k => H1 ((tg_exI hf).mpr k)) (fun k => H0 ?_)
  cases e : tg_exB f K p q
  · rfl
  · exact absurd ((tg_exI hf).mp e) k
/-! pins -/
def tg_pu (p : Nat → Nat) (K x : Nat) : Nat → Nat := fun i => if i = K then x else p i
theorem tg_push {K x y : Nat} {p q : Nat → Nat} (h : tg_pm a2 a3 K p q) (hx : x < 3) (hy : y < 3) : tg_pm (upd a2 K (nI x)) (upd a3 K (nI y)) (K + 1) (tg_pu p K x) (tg_pu q K y) := by
  intro k hk
  unfold tg_pu
  by_cases e : k = K
  · subst e
    rw [pk_us, pk_us, if_pos rfl, if_pos rfl]
    exact ⟨rfl, hx, rfl, hy⟩
  · rw [pk_un e, pk_un e, if_neg e, if_neg e]
    exact h k (by omega)
theorem tg_pop {K x y : Nat} {p q : Nat → Nat} (h : tg_pm a2 a3 (K + 1) (tg_pu p K x) (tg_pu q K y)) : tg_pm a2 a3 K p q := by
  intro k hk
  have e := h k (by omega)
  unfold tg_pu at e
  rw [if_neg (by omega), if_neg (by omega)] at e
  exact e
theorem tg_pm0 (p q : Nat → Nat) : tg_pm a2 a3 0 p q := fun k hk => absurd hk (by omega)
theorem tg_pin {post : St2 → Prop} {K x y : Nat} (hK : K ≤ 6) (H : post (3, (nI g), (nI h), (nI (K + 1)), bs, hb, a1, (upd a2 K (nI x)), (upd a3 K (nI y)), a4, a5, a6, a7, a8, a9, a10, a11, a12, a13, a14)) : wpX_pin post (3, (nI g), (nI h), (nI K), bs, hb, a1, a2, a3, a4, a5, a6, a7, a8, a9, a10, a11, a12, a13, a14) (nI x) (nI y) := by
  have e : (nI K).toNatClampNeg = K := nI_clamp (by omega)
  refine ⟨pk_in K 7 (by omega), ?_⟩
  rw [e]
  exact nm_e ⟨pk_in K 7 (by omega), nm_e (nm_r (nI_1 K) H)⟩
def tg_pt (q : Nat → Nat) : Nat → Nat → Bool
  | 0, _ => false
  | k + 1, b => tg_pt q k b || q k == b
theorem tg_ptI {q : Nat → Nat} {b : Nat} : ∀ {K : Nat}, tg_pt q K b = true ↔ ∃ k, k < K ∧ q k = b := by
  intro K
  induction K with
  | zero => exact ⟨fun z => Bool.noConfusion z, fun ⟨k, hk, _⟩ => absurd hk (by omega)⟩
  | succ K ih =>
    show (tg_pt q K b || q K == b) = true ↔ _
    rw [Bool.or_eq_true, beq_iff_eq, ih]
    constructor
    · rintro (⟨k, hk, e⟩ | e)
      · exact ⟨k, by omega, e⟩
      · exact ⟨K, by omega, e⟩
    · rintro ⟨k, hk, e⟩
      by_cases z : k = K
      · subst z; exact Or.inr e
      · exact Or.inl ⟨k, by omega, e⟩
theorem tg_pinnedTo {post : Int32 → Prop} {K b : Nat} {p q : Nat → Nat} (hK : K ≤ 7) (hb3 : b < 3) (hm : tg_pm a2 a3 K p q) (H1 : tg_pt q K b = true → post 1) (H0 : tg_pt q K b = false → post 0) : wpX_pinnedTo post (3, (nI g), (nI h), (nI K), bs, hb, a1, a2, a3, a4, a5, a6, a7, a8, a9, a10, a11, a12, a13, a14) (nI b) := by
  refine pk_loop (σ := Unit) (fun n i _ => wX_pinnedTo_2 post (nI b) 3 (nI g) (nI h) (nI K) bs hb a1 a2 a3 a4 a5 a6 a7 a8 a9 a10 a11 a12 a13 a14 n (nI i)) (fun i _ => ∀ k, k < i → q k ≠ b) K 0 () (by omega) (fun k hk => absurd hk (by omega)) ?_ ?_
  · intro n _ h
    refine pk_le K K (fun _ => H0 ?_) (fun z => absurd z (by omega))
    cases e : tg_pt q K b
    · rfl
    · obtain ⟨k, hk, ek⟩ := tg_ptI.mp e
      exact absurd ek (h k hk)
  · intro n i _ hi h hw
    obtain ⟨m1, m2, m3, m4⟩ := hm i hi
    refine pk_le K i (fun z => absurd z (by omega)) (fun _ => ⟨pk_in i 7 (by omega), ?_⟩)
    rw [nI_clamp (show i < 2 ^ 31 by omega), m3]
    refine pk_eq (q i) b (fun e => H1 (tg_ptI.mpr ⟨i, hi, e⟩)) (fun e => nm_r (nI_1 i) (hw () (fun k hk => ?_)))
    by_cases ek : k = i
    · subst ek; exact e
    · exact h k (by omega)
/-! the least partner -/
def tg_cd (f : Nat → Bool) (K : Nat) (p q : Nat → Nat) (x b : Nat) : Bool := !(tg_pt q K b) && tg_exB f (K + 1) (tg_pu p K x) (tg_pu q K b)
def tg_lp (f : Nat → Bool) (K : Nat) (p q : Nat → Nat) (x : Nat) : Option Nat := if tg_cd f K p q x 0 then some 0 else if tg_cd f K p q x 1 then some 1 else if tg_cd f K p q x 2 then some 2 else none
theorem tg_leastPartner {post : Int32 → St2 → Prop} {K x : Nat} {p q : Nat → Nat} {f : Nat → Bool} (hf : tg_XY a1 g h f) (hK : K ≤ 6) (hx : x < 3) (hm : tg_pm a2 a3 K p q)
    (H1 : ∀ b, b < 3 → tg_lp f K p q x = some b → ∀ (b2 b3 b4 b5 : Nat → Int32) (b6 : Nat → Int64) (b7 b8 b9 : Nat → Int32), tg_pm b2 b3 (K + 1) (tg_pu p K x) (tg_pu q K b) → post (nI b) (3, (nI g), (nI h), (nI (K + 1)), bs, hb, a1, b2, b3, b4, b5, b6, b7, b8, b9, a10, a11, a12, a13, a14))
    (H0 : tg_lp f K p q x = none → ∀ (b2 b3 b4 b5 : Nat → Int32) (b6 : Nat → Int64) (b7 b8 b9 : Nat → Int32), tg_pm b2 b3 K p q → post (-1) (3, (nI g), (nI h), (nI K), bs, hb, a1, b2, b3, b4, b5, b6, b7, b8, b9, a10, a11, a12, a13, a14)) : wpX_leastPartner post (3, (nI g), (nI h), (nI K), bs, hb, a1, a2, a3, a4, a5, a6, a7, a8, a9, a10, a11, a12, a13, a14) (nI x) := by
  refine pk_loop (σ := (Nat → Int32) × (Nat → Int32) × (Nat → Int32) × (Nat → Int32) × (Nat → Int64) × (Nat → Int32) × (Nat → Int32) × (Nat → Int32)) (fun n i s => wX_leastPartner_2 post (nI x) n (nI i) 3 (nI g) (nI h) (nI K) bs hb a1 s.1 s.2.1 s.2.2.1 s.2.2.2.1 s.2.2.2.2.1 s.2.2.2.2.2.1 s.2.2.2.2.2.2.1 s.2.2.2.2.2.2.2 a10 a11 a12 a13 a14) (fun i s => tg_pm s.1 s.2.1 K p q ∧ ∀ b, b < i → tg_cd f K p q x b = false) 3 0 (a2, a3, a4, a5, a6, a7, a8, a9) (by omega) ⟨hm, fun b hb => absurd hb (by omega)⟩ ?_ ?_
  · intro n s h
    refine pk_le 3 3 (fun _ => H0 ?_ s.1 s.2.1 s.2.2.1 s.2.2.2.1 s.2.2.2.2.1 s.2.2.2.2.2.1 s.2.2.2.2.2.2.1 s.2.2.2.2.2.2.2 h.1) (fun z => absurd z (by omega))
    unfold tg_lp
    rw [h.2 0 (by omega), h.2 1 (by omega), h.2 2 (by omega)]
    rfl
  · intro n i s hi h hw
    obtain ⟨c2, c3, c4, c5, c6, c7, c8, c9⟩ := s
    obtain ⟨h1, h2⟩ := h
    dsimp only at h1
    refine pk_le 3 i (fun z => absurd z (by omega)) (fun _ => tg_pinnedTo (by omega) hi h1 (fun hp => br_f (by decide) (nm_r (nI_1 i) (hw (c2, c3, c4, c5, c6, c7, c8, c9) ⟨h1, fun b hb => ?_⟩))) (fun hp => br_t rfl (tg_pin hK (tg_exists hf (by omega) (tg_push h1 hx hi) (fun he b4 b5 b6 b7 b8 b9 => br_f (by decide) (H1 i hi ?_ _ _ b4 b5 b6 b7 b8 b9 (tg_push h1 hx hi))) (fun he b4 b5 b6 b7 b8 b9 => br_t rfl (nm_r (nI_pred K) (nm_r (nI_1 i) (hw (_, _, b4, b5, b6, b7, b8, b9) ⟨tg_pop (tg_push h1 hx hi), fun b hb => ?_⟩))))))))
    · by_cases eb : b = i
      · subst eb
        unfold tg_cd
        rw [hp]
        rfl
      · exact h2 b (by omega)
    · have hc : tg_cd f K p q x i = true := by
        unfold tg_cd
        rw [hp, he]
        rfl
      unfold tg_lp
      have hi' : i = 0 ∨ i = 1 ∨ i = 2 := by omega
      rcases hi' with z | z | z <;> subst z
      · rw [hc]; rfl
      · rw [h2 0 (by omega), hc]; rfl
      · rw [h2 0 (by omega), h2 1 (by omega), hc]; rfl
    · by_cases eb : b = i
      · subst eb
        unfold tg_cd
        rw [he, Bool.and_false]
      · exact h2 b (by omega)
/-! the count of symmetries -/
def tg_id : Nat → Nat := fun k => k
def tg_sz (f : Nat → Bool) (a : Nat) : Nat → Nat
  | 0 => 1
  | j + 1 => tg_sz f a j + if tg_exB f (a + 1) (tg_pu tg_id a a) (tg_pu tg_id a (a + 1 + j)) then 1 else 0
def tg_pr (f : Nat → Bool) : Nat → Nat
  | 0 => 1
  | a + 1 => tg_pr f a * tg_sz f a (2 - a)
theorem tg_pushid {a : Nat} (h : tg_pm a2 a3 a tg_id tg_id) (ha : a < 3) : tg_pm (upd a2 a (nI a)) (upd a3 a (nI a)) (a + 1) tg_id tg_id := by
  intro k hk
  by_cases e : k = a
  · subst e
    rw [pk_us, pk_us]
    exact ⟨rfl, ha, rfl, ha⟩
  · rw [pk_un e, pk_un e]
    exact h k (by omega)
theorem tg_cs26 {post : Int32 → St2 → Prop} {J10 : Int32 → Int32 → Int32 → Int32 → Int32 → Int32 → Int64 → Int32 → (Nat → Int32) → (Nat → Int32) → (Nat → Int32) → (Nat → Int32) → (Nat → Int32) → (Nat → Int64) → (Nat → Int32) → (Nat → Int32) → (Nat → Int32) → (Nat → Int32) → (Nat → Int32) → (Nat → Int64) → (Nat → Int64) → (Nat → Int32) → Prop} {a z : Nat} {f : Nat → Bool} (hf : tg_XY a1 g h f) (ha : a < 3) (hm : tg_pm a2 a3 a tg_id tg_id)
    (H : ∀ (b2 b3 b4 b5 : Nat → Int32) (b6 : Nat → Int64) (b7 b8 b9 : Nat → Int32), tg_pm b2 b3 (a + 1) tg_id tg_id → J10 (nI (z * tg_sz f a (2 - a))) (nI (a + 1)) 3 (nI g) (nI h) (nI (a + 1)) bs hb a1 b2 b3 b4 b5 b6 b7 b8 b9 a10 a11 a12 a13 a14) :
    ∃ n, wX_countSymmetries_26 post J10 (nI z) (nI a) n 1 (nI (a + 1)) 3 (nI g) (nI h) (nI a) bs hb a1 a2 a3 a4 a5 a6 a7 a8 a9 a10 a11 a12 a13 a14 := by
  refine pk_loop (σ := (Nat → Int32) × (Nat → Int32) × (Nat → Int32) × (Nat → Int32) × (Nat → Int64) × (Nat → Int32) × (Nat → Int32) × (Nat → Int32)) (fun n i s => wX_countSymmetries_26 post J10 (nI z) (nI a) n (nI (tg_sz f a i)) (nI (a + 1 + i)) 3 (nI g) (nI h) (nI a) bs hb a1 s.1 s.2.1 s.2.2.1 s.2.2.2.1 s.2.2.2.2.1 s.2.2.2.2.2.1 s.2.2.2.2.2.2.1 s.2.2.2.2.2.2.2 a10 a11 a12 a13 a14) (fun i s => tg_pm s.1 s.2.1 a tg_id tg_id) (2 - a) 0 (a2, a3, a4, a5, a6, a7, a8, a9) (by omega) hm ?_ ?_
  · intro n s h
    exact pk_le 3 (a + 1 + (2 - a)) (fun _ => nm_r (pk_mul _ _) (tg_pin (by omega) (nm_r (nI_1 a) (H _ _ s.2.2.1 s.2.2.2.1 s.2.2.2.2.1 s.2.2.2.2.2.1 s.2.2.2.2.2.2.1 s.2.2.2.2.2.2.2 (tg_pushid h ha))))) (fun z => absurd z (by omega))
  · intro n i s hi hI hw
    obtain ⟨c2, c3, c4, c5, c6, c7, c8, c9⟩ := s
    dsimp only at hI
    have hb3 : a + 1 + i < 3 := by omega
    have K : ∀ b4 b5 b6 b7 b8 b9, wX_countSymmetries_26 post J10 (nI z) (nI a) n (nI (tg_sz f a (i + 1))) (nI (a + 1 + i + 1)) 3 (nI g) (nI h) (nI a) bs hb a1 (upd c2 a (nI a)) (upd c3 a (nI (a + 1 + i))) b4 b5 b6 b7 b8 b9 a10 a11 a12 a13 a14 := fun b4 b5 b6 b7 b8 b9 => hw (_, _, b4, b5, b6, b7, b8, b9) (tg_pop (tg_push hI ha hb3))
    refine pk_le 3 (a + 1 + i) (fun z => absurd z (by omega)) (fun _ => tg_pin (by omega) (tg_exists hf (by omega) (tg_push hI ha hb3) (fun he b4 b5 b6 b7 b8 b9 => br_f (by decide) (nm_r (nI_1 _) (nm_r (nI_pred a) (nm_r (nI_1 _) ?_)))) (fun he b4 b5 b6 b7 b8 b9 => br_t rfl (nm_r (nI_pred a) (nm_r (nI_1 _) ?_)))))
    · have k := K b4 b5 b6 b7 b8 b9
      rw [show tg_sz f a (i + 1) = tg_sz f a i + 1 from by show tg_sz f a i + (if tg_exB f (a + 1) (tg_pu tg_id a a) (tg_pu tg_id a (a + 1 + i)) then 1 else 0) = _; rw [he]; rfl] at k
      exact k
    · have k := K b4 b5 b6 b7 b8 b9
      rw [show tg_sz f a (i + 1) = tg_sz f a i from by show tg_sz f a i + (if tg_exB f (a + 1) (tg_pu tg_id a a) (tg_pu tg_id a (a + 1 + i)) then 1 else 0) = _; rw [he]; rfl] at k
      exact k
end
end
section
/-! what the law asks: layings, laid, canLay, symmetries, mirror -/
section
variable {gX gY pn : Int32} {bs : Int64} {hb : Int32} {a1 : Nat → Int32} {a2 : Nat → Int32} {a3 : Nat → Int32} {a4 : Nat → Int32} {a5 : Nat → Int32} {a6 : Nat → Int64} {a7 : Nat → Int32} {a8 : Nat → Int32} {a9 : Nat → Int32} {a10 : Nat → Int32} {a11 : Nat → Int32} {a12 : Nat → Int64} {a13 : Nat → Int64} {a14 : Nat → Int32}
variable {g h : Nat}
theorem tg_aim {post : St2 → Prop} {x y : Int32} (H : post (3, x, y, 0, bs, hb, a1, a2, a3, a4, a5, a6, a7, a8, a9, a10, a11, a12, a13, a14)) : wpX_aim post (3, gX, gY, pn, bs, hb, a1, a2, a3, a4, a5, a6, a7, a8, a9, a10, a11, a12, a13, a14) x y := H
theorem tg_isPoint {post : Int32 → Prop} {a : Nat} (ha : a < 3) (H : post 1) : wpX_isPoint post (3, gX, gY, pn, bs, hb, a1, a2, a3, a4, a5, a6, a7, a8, a9, a10, a11, a12, a13, a14) (nI a) :=
  br_f (nI_pos (by omega)) (pk_le 3 a (fun z => absurd z (by omega)) (fun _ => H))
theorem tg_countSym {post : Int32 → St2 → Prop} {f : Nat → Bool} (hf : tg_XY a1 g g f) (H : ∀ (gX gY pn : Int32) (b2 b3 b4 b5 : Nat → Int32) (b6 : Nat → Int64) (b7 b8 b9 : Nat → Int32), post (nI (tg_pr f 3)) (3, gX, gY, pn, bs, hb, a1, b2, b3, b4, b5, b6, b7, b8, b9, a10, a11, a12, a13, a14)) : wpX_countSymmetries post (3, gX, gY, pn, bs, hb, a1, a2, a3, a4, a5, a6, a7, a8, a9, a10, a11, a12, a13, a14) (nI g) := by
  unfold wpX_countSymmetries
  dsimp only
  refine tg_aim ?_
  refine pk_loop (σ := (Nat → Int32) × (Nat → Int32) × (Nat → Int32) × (Nat → Int32) × (Nat → Int64) × (Nat → Int32) × (Nat → Int32) × (Nat → Int32)) (fun n i s => wX_countSymmetries_10 post n (nI (tg_pr f i)) (nI i) 3 (nI g) (nI g) (nI i) bs hb a1 s.1 s.2.1 s.2.2.1 s.2.2.2.1 s.2.2.2.2.1 s.2.2.2.2.2.1 s.2.2.2.2.2.2.1 s.2.2.2.2.2.2.2 a10 a11 a12 a13 a14) (fun i s => tg_pm s.1 s.2.1 i tg_id tg_id) 3 0 (a2, a3, a4, a5, a6, a7, a8, a9) (by omega) (tg_pm0 _ _) ?_ ?_
  · intro n s h
    exact pk_le 3 3 (fun _ => H _ _ _ s.1 s.2.1 s.2.2.1 s.2.2.2.1 s.2.2.2.2.1 s.2.2.2.2.2.1 s.2.2.2.2.2.2.1 s.2.2.2.2.2.2.2) (fun z => absurd z (by omega))
  · intro n i s hi h hw
    exact pk_le 3 i (fun z => absurd z (by omega)) (fun _ => nm_r (nI_1 i) (tg_cs26 hf hi h (fun b2 b3 b4 b5 b6 b7 b8 b9 hm => hw (b2, b3, b4, b5, b6, b7, b8, b9) hm)))
theorem tg_layings {post : Int32 → St2 → Prop} {f f0 : Nat → Bool} (hf : tg_XY a1 0 1 f) (hf0 : tg_XY a1 0 0 f0) (H : ∀ (gX gY pn : Int32) (b2 b3 b4 b5 : Nat → Int32) (b6 : Nat → Int64) (b7 b8 b9 : Nat → Int32), post (nI (if tg_exB f 0 tg_id tg_id then tg_pr f0 3 else 0)) (3, gX, gY, pn, bs, hb, a1, b2, b3, b4, b5, b6, b7, b8, b9, a10, a11, a12, a13, a14)) : wpX_layings post (3, gX, gY, pn, bs, hb, a1, a2, a3, a4, a5, a6, a7, a8, a9, a10, a11, a12, a13, a14) := by
  unfold wpX_layings
  dsimp only
  refine tg_aim ?_
  refine tg_exists (g := 0) (h := 1) (K := 0) (p := tg_id) (q := tg_id) hf (by omega) (tg_pm0 _ _) (fun he b4 b5 b6 b7 b8 b9 => br_f (by decide) (tg_countSym (g := 0) hf0 (fun gX gY pn b2 b3 b4 b5 b6 b7 b8 b9 => ?_))) (fun he b4 b5 b6 b7 b8 b9 => br_t rfl ?_)
  · have k := H gX gY pn b2 b3 b4 b5 b6 b7 b8 b9
    rw [he] at k
    exact k
  · have k := H 0 1 0 a2 a3 b4 b5 b6 b7 b8 b9
    rw [he] at k
    exact k
/-! laid -/
def tg_f6 (b0 b1 b2 b3 b4 b5 : Bool) (i : Nat) : Bool := match i with
  | 0 => b0
  | 1 => b1
  | 2 => b2
  | 3 => b3
  | 4 => b4
  | _ => b5
def tg_fi (f : Nat → Bool) : Nat := if f 0 then 0 else if f 1 then 1 else if f 2 then 2 else if f 3 then 3 else if f 4 then 4 else if f 5 then 5 else 6
def tg_p1 : Nat → Nat → Nat
  | 0 => tg_id
  | k + 1 => tg_pu (tg_p1 k) k k
def tg_q1 (i : Nat) : Nat → Nat → Nat
  | 0 => tg_id
  | k + 1 => tg_pu (tg_q1 i k) k (tg_q i k)
theorem tg_ch0 : ∀ b0 b1 b2 b3 b4 b5 : Bool, (tg_fi (tg_f6 b0 b1 b2 b3 b4 b5) = 6 ∧ tg_lp (tg_f6 b0 b1 b2 b3 b4 b5) 0 tg_id tg_id 0 = none) ∨ (tg_fi (tg_f6 b0 b1 b2 b3 b4 b5) < 6 ∧ ∀ k, k < 3 → tg_lp (tg_f6 b0 b1 b2 b3 b4 b5) k (tg_p1 k) (tg_q1 (tg_fi (tg_f6 b0 b1 b2 b3 b4 b5)) k) k = some (tg_q (tg_fi (tg_f6 b0 b1 b2 b3 b4 b5)) k)) := by decide +kernel
theorem tg_ch (f : Nat → Bool) : (tg_fi f = 6 ∧ tg_lp f 0 tg_id tg_id 0 = none) ∨ (tg_fi f < 6 ∧ ∀ k, k < 3 → tg_lp f k (tg_p1 k) (tg_q1 (tg_fi f) k) k = some (tg_q (tg_fi f) k)) :=
  tg_ch0 (f 0) (f 1) (f 2) (f 3) (f 4) (f 5)
def tg_la (f : Nat → Bool) (a : Nat) : Int32 := if tg_fi f < 6 then nI (tg_q (tg_fi f) a) else -1
theorem tg_laid {post : Int32 → St2 → Prop} {f : Nat → Bool} {a : Nat} (hf : tg_XY a1 0 1 f) (ha : a < 3) (H : ∀ (gX gY pn : Int32) (b2 b3 b4 b5 : Nat → Int32) (b6 : Nat → Int64) (b7 b8 b9 : Nat → Int32), post (tg_la f a) (3, gX, gY, pn, bs, hb, a1, b2, b3, b4, b5, b6, b7, b8, b9, a10, a11, a12, a13, a14)) : wpX_laid post (3, gX, gY, pn, bs, hb, a1, a2, a3, a4, a5, a6, a7, a8, a9, a10, a11, a12, a13, a14) (nI a) := by
  unfold wpX_laid
  dsimp only
  refine tg_isPoint ha (br_f (by decide) (tg_aim ?_))
  unfold tg_la at H
  rcases tg_ch f with ⟨h6, hn⟩ | ⟨h6, hs⟩
  · rw [if_neg (by omega)] at H
    refine ⟨2, pk_lt a 0 (fun z => absurd z (by omega)) (fun _ => br_f (by decide) (tg_leastPartner (g := 0) (h := 1) (K := 0) (x := 0) (p := tg_id) (q := tg_id) hf (by omega) (by omega) (tg_pm0 _ _) (fun b hb hl => absurd (hn.symm.trans hl) (by intro z; cases z)) (fun _ b2 b3 b4 b5 b6 b7 b8 b9 _ => br_t (by decide) (nm_r (nI_1 0) ?_))))⟩
    exact br_c (fun _ => H 0 1 (nI 0) b2 b3 b4 b5 b6 b7 b8 b9) (fun _ => br_t rfl (H 0 1 (nI 0) b2 b3 b4 b5 b6 b7 b8 b9))
  · rw [if_pos h6] at H
    refine pk_loop (σ := (Nat → Int32) × (Nat → Int32) × (Nat → Int32) × (Nat → Int32) × (Nat → Int64) × (Nat → Int32) × (Nat → Int32) × (Nat → Int32)) (fun n i s => wX_laid_23 post (nI a) n (if i = 0 then -1 else nI (tg_q (tg_fi f) (i - 1))) 1 (nI i) 3 (nI 0) (nI 1) (nI i) bs hb a1 s.1 s.2.1 s.2.2.1 s.2.2.2.1 s.2.2.2.2.1 s.2.2.2.2.2.1 s.2.2.2.2.2.2.1 s.2.2.2.2.2.2.2 a10 a11 a12 a13 a14) (fun i s => tg_pm s.1 s.2.1 i (tg_p1 i) (tg_q1 (tg_fi f) i)) (a + 1) 0 (a2, a3, a4, a5, a6, a7, a8, a9) (by omega) (tg_pm0 _ _) ?_ ?_
    · intro n s h
      exact pk_lt a (a + 1) (fun _ => H _ _ _ s.1 s.2.1 s.2.2.1 s.2.2.2.1 s.2.2.2.2.1 s.2.2.2.2.2.1 s.2.2.2.2.2.2.1 s.2.2.2.2.2.2.2) (fun z => absurd z (by omega))
    · intro n i s hi h hw
      obtain ⟨c2, c3, c4, c5, c6, c7, c8, c9⟩ := s
      dsimp only at h
      refine pk_lt a i (fun z => absurd z (by omega)) (fun _ => br_f (by decide) (tg_leastPartner (g := 0) (h := 1) (x := i) hf (by omega) (by omega) h (fun b hb hl b2 b3 b4 b5 b6 b7 b8 b9 hm => br_f (nI_pos (by omega)) (nm_r (nI_1 i) ?_)) (fun hn => absurd ((hs i (by omega)).symm.trans hn) (by intro z; cases z))))
      have eb : b = tg_q (tg_fi f) i := Option.some.inj (hl.symm.trans (hs i (by omega)))
      subst eb
      exact hw (b2, b3, b4, b5, b6, b7, b8, b9) hm
theorem tg_canLay {post : Int32 → St2 → Prop} {f : Nat → Bool} (hf : tg_XY a1 0 1 f) (H : ∀ (gX gY pn : Int32) (b2 b3 b4 b5 : Nat → Int32) (b6 : Nat → Int64) (b7 b8 b9 : Nat → Int32), post (if tg_exB f 1 (tg_pu tg_id 0 0) (tg_pu tg_id 0 1) then 1 else 0) (3, gX, gY, pn, bs, hb, a1, b2, b3, b4, b5, b6, b7, b8, b9, a10, a11, a12, a13, a14)) : wpX_canLay post (3, gX, gY, pn, bs, hb, a1, a2, a3, a4, a5, a6, a7, a8, a9, a10, a11, a12, a13, a14) 0 1 0 1 := by
  unfold wpX_canLay
  dsimp only
  refine tg_isPoint (a := 0) (by omega) (br_f (by decide) (tg_isPoint (a := 1) (by omega) (br_f (by decide) (tg_isPoint (a := 0) (by omega) (br_f (by decide) (tg_isPoint (a := 1) (by omega) (br_f (by decide) (br_t rfl ?_))))))))
  refine br_t rfl (br_t rfl (tg_aim (tg_pin (g := 0) (h := 1) (K := 0) (x := 0) (y := 1) (by omega) (br_t rfl ?_))))
  refine tg_exists (g := 0) (h := 1) (K := 1) hf (by omega) (tg_push (tg_pm0 tg_id tg_id) (by omega) (by omega)) (fun he b4 b5 b6 b7 b8 b9 => br_f (by decide) ?_) (fun he b4 b5 b6 b7 b8 b9 => br_t rfl ?_)
  · have k := H 0 1 (nI 1) (upd a2 0 (nI 0)) (upd a3 0 (nI 1)) b4 b5 b6 b7 b8 b9
    rw [he] at k
    exact k
  · have k := H 0 1 (nI 1) (upd a2 0 (nI 0)) (upd a3 0 (nI 1)) b4 b5 b6 b7 b8 b9
    rw [he] at k
    exact k
theorem tg_symmetries {post : Int32 → St2 → Prop} {f : Nat → Bool} (hf : tg_XY a1 0 0 f) (H : ∀ (gX gY pn : Int32) (b2 b3 b4 b5 : Nat → Int32) (b6 : Nat → Int64) (b7 b8 b9 : Nat → Int32), post (nI (tg_pr f 3)) (3, gX, gY, pn, bs, hb, a1, b2, b3, b4, b5, b6, b7, b8, b9, a10, a11, a12, a13, a14)) : wpX_symmetries post (3, gX, gY, pn, bs, hb, a1, a2, a3, a4, a5, a6, a7, a8, a9, a10, a11, a12, a13, a14) 0 :=
  br_f (by decide) (br_t (by decide) (tg_countSym (g := 0) hf H))
def tg_oi : Option Nat → Int32
  | none => -1
  | some b => nI b
theorem tg_mirror {post : Int32 → St2 → Prop} {f : Nat → Bool} (hf : tg_XY a1 0 0 f) (H : ∀ (gX gY pn : Int32) (b2 b3 b4 b5 : Nat → Int32) (b6 : Nat → Int64) (b7 b8 b9 : Nat → Int32), post (tg_oi (tg_lp f 0 tg_id tg_id 2)) (3, gX, gY, pn, bs, hb, a1, b2, b3, b4, b5, b6, b7, b8, b9, a10, a11, a12, a13, a14)) : wpX_mirror post (3, gX, gY, pn, bs, hb, a1, a2, a3, a4, a5, a6, a7, a8, a9, a10, a11, a12, a13, a14) 0 2 := by
  refine br_f (by decide) (br_f (by decide) (tg_isPoint (a := 2) (by omega) (br_f (by decide) (tg_aim ?_))))
  refine tg_leastPartner (g := 0) (h := 0) (K := 0) (x := 2) (p := tg_id) (q := tg_id) hf (by omega) (by omega) (tg_pm0 _ _) (fun b hb hl b2 b3 b4 b5 b6 b7 b8 b9 _ => ?_) (fun hl b2 b3 b4 b5 b6 b7 b8 b9 _ => ?_)
  · have k := H 0 0 (nI 1) b2 b3 b4 b5 b6 b7 b8 b9
    rw [hl] at k
    exact k
  · have k := H 0 0 (nI 0) b2 b3 b4 b5 b6 b7 b8 b9
    rw [hl] at k
    exact k
end
end
section
/-! the methods that the print holds a second time: the same lemmas (printed by twin.py) -/
section
variable {gX gY pn : Int32} {bs : Int64} {hb : Int32} {a1 : Nat → Int32} {a2 : Nat → Int32} {a3 : Nat → Int32} {a4 : Nat → Int32} {a5 : Nat → Int32} {a6 : Nat → Int64} {a7 : Nat → Int32} {a8 : Nat → Int32} {a9 : Nat → Int32} {a10 : Nat → Int32} {a11 : Nat → Int32} {a12 : Nat → Int64} {a13 : Nat → Int64} {a14 : Nat → Int32}
variable {g h : Nat}
theorem tw_rg92 {post : Int32 → St2 → Prop} {d : Nat} (hd : d ≤ 8) (x2 : Int32) (hx : x2 = 0 ∨ x2 = 1)
    (H : ∀ r b4, (r = 0 ∨ r = 1) → (∀ j, j < 14 → b4 (14 * d + j) = a5 j) → (∀ k, (k < 14 * d ∨ 14 * d + 14 ≤ k) → b4 k = a4 k) → post r (3, (nI g), (nI h), pn, bs, hb, a1, a2, a3, b4, a5, a6, a7, a8, a9, a10, a11, a12, a13, a14)) :
    ∃ n, wX_regroup_2_92 post (nI d) 3 (nI g) (nI h) pn bs hb n x2 0 a1 a2 a3 a4 a5 a6 a7 a8 a9 a10 a11 a12 a13 a14 := by
  refine pk_loop (σ := Int32 × (Nat → Int32)) (fun n i s => wX_regroup_2_92 post (nI d) 3 (nI g) (nI h) pn bs hb n s.1 (nI i) a1 a2 a3 s.2 a5 a6 a7 a8 a9 a10 a11 a12 a13 a14) (fun i s => (s.1 = 0 ∨ s.1 = 1) ∧ (∀ j, j < i → s.2 (14 * d + j) = a5 j) ∧ (∀ k, (k < 14 * d ∨ 14 * d + i ≤ k) → s.2 k = a4 k)) 14 0 (x2, a4) (by omega) ⟨hx, fun j hj => absurd hj (by omega), fun k _ => rfl⟩ ?_ ?_
  · intro n s h
    exact pk_le 14 14 (fun _ => ⟨tg_nb h.1, H s.1 s.2 h.1 h.2.1 h.2.2⟩) (fun z => absurd z (by omega))
  · intro n i s hi h hw
    obtain ⟨x, c⟩ := s
    obtain ⟨h1, h2, h3⟩ := h
    dsimp only at h1 h2 h3
    have e1 : (14 * nI d + nI i).toNatClampNeg = 14 * d + i := pk_cl _ (tg_ix d i)
    have e2 : (nI i).toNatClampNeg = i := nI_clamp (by omega)
    refine pk_le 14 i (fun z => absurd z (by omega)) (fun _ => ⟨pk_in (14 * d + i) 128 (by omega) (tg_ix d i), pk_in i 14 hi, ?_⟩)
    rw [e1, e2]
    refine br_c (fun e => nm_r (nI_1 i) (hw (x, c) ⟨h1, fun j hj => ?_, fun k hk => h3 k (by omega)⟩)) (fun e => ⟨pk_in i 14 hi, pk_in (14 * d + i) 128 (by omega) (tg_ix d i), nm_e (nm_r (nI_1 i) (hw (1, upd c (14 * d + i) (a5 i)) ⟨Or.inr rfl, fun j hj => ?_, fun k hk => ?_⟩))⟩)
    · by_cases ej : j = i
      · subst ej; exact e
      · exact h2 j (by omega)
    · show upd c (14 * d + i) (a5 i) (14 * d + j) = a5 j
      by_cases ej : j = i
      · subst ej; exact pk_us
      · rw [pk_un (by omega)]; exact h2 j (by omega)
    · show upd c (14 * d + i) (a5 i) k = a4 k
      rw [pk_un (by omega)]; exact h3 k (by omega)
theorem tw_rg18 {post : Int32 → St2 → Prop} {J4 : Int32 → (Nat → Int32) → (Nat → Int32) → (Nat → Int32) → (Nat → Int32) → (Nat → Int32) → (Nat → Int64) → (Nat → Int32) → (Nat → Int32) → (Nat → Int32) → (Nat → Int32) → (Nat → Int32) → (Nat → Int64) → (Nat → Int64) → (Nat → Int32) → Prop} {d v : Nat} {x2 : Int32} (hd : d ≤ 8) (hv : v < 14)
    (H : ∀ l, tg_F (fun j => a4 (14 * d + j)) a6 v l → J4 (nI (v + 1)) a1 a2 a3 a4 (upd a5 v (nI l)) a6 a7 a8 a9 a10 a11 a12 a13 a14) :
    ∃ n, wX_regroup_2_18 post J4 (nI d) x2 (nI v) 3 (nI g) (nI h) pn bs hb a1 a2 a3 a4 a5 a6 a7 a8 a9 a10 a11 a12 a13 a14 n (nI v) (nI v - 1) := by
  refine ⟨v + 1, pk_loopD (σ := Nat) (fun n i l => wX_regroup_2_18 post J4 (nI d) x2 (nI v) 3 (nI g) (nI h) pn bs hb a1 a2 a3 a4 a5 a6 a7 a8 a9 a10 a11 a12 a13 a14 n (nI l) (nI i - 1)) (fun i l => i ≤ v ∧ l ≤ v ∧ tg_R (fun j => a4 (14 * d + j)) a6 l v ∧ ∀ u, i ≤ u → u < l → ¬ tg_R (fun j => a4 (14 * d + j)) a6 u v) ?_ ?_ v v ⟨Nat.le_refl v, Nat.le_refl v, ⟨rfl, rfl⟩, fun u h1 h2 => absurd h2 (by omega)⟩⟩
  · intro n l h
    refine br_t (by decide) ⟨pk_in v 14 hv, ?_⟩
    rw [nI_clamp (show v < 2 ^ 31 by omega)]
    exact nm_e (nm_r (nI_1 v) (H l ⟨h.2.1, h.2.2.1, fun u hu => h.2.2.2 u (Nat.zero_le u) hu⟩))
  · intro n i l h hw
    obtain ⟨h1, h2, h3, h4⟩ := h
    have e1 : (14 * nI d + nI i).toNatClampNeg = 14 * d + i := pk_cl _ (tg_ix d i)
    have e2 : (14 * nI d + nI v).toNatClampNeg = 14 * d + v := pk_cl _ (tg_ix d v)
    have e3 : (nI i).toNatClampNeg = i := nI_clamp (by omega)
    have e4 : (nI v).toNatClampNeg = v := nI_clamp (by omega)
    show wX_regroup_2_18 post J4 (nI d) x2 (nI v) 3 (nI g) (nI h) pn bs hb a1 a2 a3 a4 a5 a6 a7 a8 a9 a10 a11 a12 a13 a14 (n + 1) (nI l) (nI (i + 1) - 1)
    rw [nI_pred]
    refine br_f (nI_pos (by omega)) ⟨pk_in (14 * d + i) 128 (by omega) (tg_ix d i), pk_in (14 * d + v) 128 (by omega) (tg_ix d v), ?_⟩
    rw [e1, e2]
    refine br_c (fun c1 => ⟨pk_in i 14 (by omega), pk_in v 14 hv, ?_⟩) (fun c1 => nm_r (tg_m1 i) (hw l ⟨by omega, h2, h3, fun u a b r => ?_⟩))
    · rw [e3, e4]
      refine br_c (fun c2 => nm_r (tg_m1 i) (hw i ⟨by omega, by omega, ⟨c1, c2⟩, fun u a b => absurd b (by omega)⟩)) (fun c2 => nm_r (tg_m1 i) (hw l ⟨by omega, h2, h3, fun u a b r => ?_⟩))
      by_cases eu : u = i
      · subst eu; exact c2 r.2
      · exact h4 u (by omega) b r
    · by_cases eu : u = i
      · subst eu; exact c1 r.1
      · exact h4 u (by omega) b r
theorem tw_regroup {post : Int32 → St2 → Prop} {d : Nat} (hd : d ≤ 8) (H : ∀ r b4 b5, tg_RG d a4 a6 b4 → post r (3, (nI g), (nI h), pn, bs, hb, a1, a2, a3, b4, b5, a6, a7, a8, a9, a10, a11, a12, a13, a14)) : wpX_regroup_2 post (3, (nI g), (nI h), pn, bs, hb, a1, a2, a3, a4, a5, a6, a7, a8, a9, a10, a11, a12, a13, a14) (nI d) := by
  refine pk_loop (σ := Nat → Int32) (fun n i s => wX_regroup_2_4 post (nI d) 0 3 (nI g) (nI h) pn bs hb n (nI i) a1 a2 a3 a4 s a6 a7 a8 a9 a10 a11 a12 a13 a14) (fun i s => ∀ j, j < i → ∃ l, s j = nI l ∧ tg_F (fun j => a4 (14 * d + j)) a6 j l) 14 0 a5 (by omega) (fun j hj => absurd hj (by omega)) ?_ ?_
  · intro n s h
    exact pk_le 14 14 (fun _ => tw_rg92 hd 0 (Or.inl rfl) (fun r b4 hr hb ho => H r b4 s (tg_mkRG h hb ho))) (fun z => absurd z (by omega))
  · intro n i s hi h hw
    refine pk_le 14 i (fun z => absurd z (by omega)) (fun _ => nm_e (tw_rg18 hd hi (fun l hl => hw _ (fun j hj => ?_))))
    by_cases ej : j = i
    · subst ej; exact ⟨l, pk_us, hl⟩
    · obtain ⟨m, e, f⟩ := h j (by omega)
      exact ⟨m, by rw [pk_un ej]; exact e, f⟩
theorem tw_mb33 {post : St2 → Prop} {J2 : Int32 → (Nat → Int32) → (Nat → Int32) → (Nat → Int32) → (Nat → Int32) → (Nat → Int32) → (Nat → Int64) → (Nat → Int32) → (Nat → Int32) → (Nat → Int32) → (Nat → Int32) → (Nat → Int32) → (Nat → Int64) → (Nat → Int64) → (Nat → Int32) → Prop} {d v f : Nat} {c : Int32} {s0 : Nat → Int64} (hg : g ≤ 1) (hh : h ≤ 1) (hd : d ≤ 8) (hf : f = 0 ∨ f = 7) (hfv : f ≤ v) (hvf : v < f + 7) (h0 : s0 v = 0)
    (H : ∀ b6, (∀ j, j ≠ v → b6 j = s0 j) → (tg_U v → b6 v = tg_sm (tg_t (tg_sh a1 g h) (fun j => a4 (14 * d + j)) c v) f 3) → J2 (nI (v + 1)) a1 a2 a3 a4 a5 b6 a7 a8 a9 a10 a11 a12 a13 a14) :
    ∃ n, wX_markBy_2_33 post J2 (nI d) c (nI v) (nI f) 3 (nI g) (nI h) pn bs hb n (nI f) a1 a2 a3 a4 a5 s0 a7 a8 a9 a10 a11 a12 a13 a14 := by
  refine pk_loop (σ := Nat → Int64) (fun n i s => wX_markBy_2_33 post J2 (nI d) c (nI v) (nI f) 3 (nI g) (nI h) pn bs hb n (nI (f + i)) a1 a2 a3 a4 a5 s a7 a8 a9 a10 a11 a12 a13 a14) (fun i s => (∀ j, j ≠ v → s j = s0 j) ∧ (tg_U v → s v = tg_sm (tg_t (tg_sh a1 g h) (fun j => a4 (14 * d + j)) c v) f i)) 3 0 s0 (by omega) ⟨fun j _ => rfl, fun _ => h0⟩ ?_ ?_
  · intro n s h
    exact pk_le (f + 3) (f + 3) (fun _ => nm_r (nI_1 v) (H s h.1 h.2)) (fun z => absurd z (by omega)) (nI_add f 3)
  · intro n i s hi h hw
    obtain ⟨h1, h2⟩ := h
    have e1 : (14 * nI d + nI (f + i)).toNatClampNeg = 14 * d + (f + i) := pk_cl _ (tg_ix d (f + i))
    have e2 : (nI v).toNatClampNeg = v := nI_clamp (by omega)
    refine pk_le (f + 3) (f + i) (fun z => absurd z (by omega)) (fun _ => tg_inU (by omega) (fun hU => br_f (by decide) ?_) (fun hU => br_t rfl (nm_r (nI_1 (f + i)) (hw s ⟨h1, fun z => absurd z hU⟩)))) (nI_add f 3)
    refine pk_eq (f + i) v (fun e => nm_r (nI_1 (f + i)) (hw s ⟨h1, fun _ => ?_⟩)) (fun ne => ⟨pk_in (14 * d + (f + i)) 128 (by omega) (tg_ix d (f + i)), ?_⟩)
    · show s v = tg_sm _ f i + tg_t _ _ c v (f + i)
      rw [tg_t, if_neg (fun z => z.1 e), Int64.add_zero]
      exact h2 hU
    · rw [e1]
      refine br_c (fun ce => ⟨pk_in v 14 (by omega), tg_shade hg hh (by omega) (by omega) (by omega) ⟨pk_in v 14 (by omega), ?_⟩⟩) (fun ce => nm_r (nI_1 (f + i)) (hw s ⟨h1, fun _ => ?_⟩))
      · rw [e2]
        refine nm_e (nm_r (nI_1 (f + i)) (hw _ ⟨fun j hj => ?_, fun _ => ?_⟩))
        · rw [pk_uLn hj]; exact h1 j hj
        · rw [pk_uLs]
          show _ = tg_sm _ f i + tg_t _ _ c v (f + i)
          rw [tg_t, if_pos ⟨ne, ce⟩, h2 hU]
      · show s v = tg_sm _ f i + tg_t _ _ c v (f + i)
        rw [tg_t, if_neg (fun z => ce z.2), Int64.add_zero]
        exact h2 hU
theorem tw_markBy {post : St2 → Prop} {d : Nat} {c : Int32} (hg : g ≤ 1) (hh : h ≤ 1) (hd : d ≤ 8)
    (H : ∀ b6, (∀ v, v < 14 → tg_U v → b6 v = tg_mk (tg_sh a1 g h) (fun j => a4 (14 * d + j)) c v) → post (3, (nI g), (nI h), pn, bs, hb, a1, a2, a3, a4, a5, b6, a7, a8, a9, a10, a11, a12, a13, a14)) : wpX_markBy_2 post (3, (nI g), (nI h), pn, bs, hb, a1, a2, a3, a4, a5, a6, a7, a8, a9, a10, a11, a12, a13, a14) (nI d) c := by
  refine pk_loop (σ := Nat → Int64) (fun n i s => wX_markBy_2_2 post (nI d) c 3 (nI g) (nI h) pn bs hb n (nI i) a1 a2 a3 a4 a5 s a7 a8 a9 a10 a11 a12 a13 a14) (fun i s => ∀ v, v < i → tg_U v → s v = tg_mk (tg_sh a1 g h) (fun j => a4 (14 * d + j)) c v) 14 0 a6 (by omega) (fun j hj => absurd hj (by omega)) ?_ ?_
  · intro n s h
    exact pk_le 14 14 (fun _ => H s h) (fun z => absurd z (by omega))
  · intro n i s hi h hw
    have e2 : (nI i).toNatClampNeg = i := nI_clamp (by omega)
    refine pk_le 14 i (fun z => absurd z (by omega)) (fun _ => ⟨pk_in i 14 hi, ?_⟩)
    rw [e2]
    refine nm_e (pk_le 7 i (fun z => ?_) (fun z => ?_))
    · refine tw_mb33 (f := 7) hg hh hd (Or.inr rfl) z (by omega) pk_uLs (fun b6 k1 k2 => hw b6 (fun v hv hU => ?_))
      by_cases ev : v = i
      · subst ev
        rw [k2 hU, tg_mk, tg_sd, if_neg (by omega)]
      · rw [k1 v ev, pk_uLn ev]
        exact h v (by omega) hU
    · refine tw_mb33 (f := 0) hg hh hd (Or.inl rfl) (by omega) (by omega) pk_uLs (fun b6 k1 k2 => hw b6 (fun v hv hU => ?_))
      by_cases ev : v = i
      · subst ev
        rw [k2 hU, tg_mk, tg_sd, if_pos z]
      · rw [k1 v ev, pk_uLn ev]
        exact h v (by omega) hU
theorem tw_rf19 {post : St2 → Prop} {J4 : Int32 → Int32 → Int32 → Int32 → Int32 → Int32 → Int64 → Int32 → (Nat → Int32) → (Nat → Int32) → (Nat → Int32) → (Nat → Int32) → (Nat → Int32) → (Nat → Int64) → (Nat → Int32) → (Nat → Int32) → (Nat → Int32) → (Nat → Int32) → (Nat → Int32) → (Nat → Int64) → (Nat → Int64) → (Nat → Int32) → Prop} {d r : Nat} {x2 : Int32} {z4 : Nat → Int32} (hg : g ≤ 1) (hh : h ≤ 1) (hd : d ≤ 8) (h0 : tg_RF (tg_sh a1 g h) d z4 a4)
    (H : ∀ x b4 b5 b6, tg_RF (tg_sh a1 g h) d z4 b4 → J4 x (nI (r + 1)) 3 (nI g) (nI h) pn bs hb a1 a2 a3 b4 b5 b6 a7 a8 a9 a10 a11 a12 a13 a14) :
    ∃ n, wX_refine_2_19 post J4 (nI d) (nI r) n x2 0 3 (nI g) (nI h) pn bs hb a1 a2 a3 a4 a5 a6 a7 a8 a9 a10 a11 a12 a13 a14 := by
  refine pk_loop (σ := Int32 × (Nat → Int32) × (Nat → Int32) × (Nat → Int64)) (fun n i s => wX_refine_2_19 post J4 (nI d) (nI r) n s.1 (nI i) 3 (nI g) (nI h) pn bs hb a1 a2 a3 s.2.1 s.2.2.1 s.2.2.2 a7 a8 a9 a10 a11 a12 a13 a14) (fun i s => tg_RF (tg_sh a1 g h) d z4 s.2.1) 14 0 (x2, a4, a5, a6) (by omega) h0 ?_ ?_
  · intro n s h
    exact pk_le 14 14 (fun _ => nm_r (nI_1 r) (H s.1 s.2.1 s.2.2.1 s.2.2.2 h)) (fun z => absurd z (by omega))
  · intro n i s hi h hw
    obtain ⟨x, c4, c5, c6⟩ := s
    dsimp only at h
    have e1 : (14 * nI d + nI i).toNatClampNeg = 14 * d + i := pk_cl _ (tg_ix d i)
    refine pk_le 14 i (fun z => absurd z (by omega)) (fun _ => tg_inU hi (fun hU => br_f (by decide) ⟨pk_in (14 * d + i) 128 (by omega) (tg_ix d i), ?_⟩) (fun hU => br_t rfl (nm_r (nI_1 i) (hw (x, c4, c5, c6) h))))
    rw [e1]
    refine br_c (fun ce => tw_markBy hg hh hd (fun b6 hb => tw_regroup hd (fun q b4 b5 hq => ?_))) (fun ce => nm_r (nI_1 i) (hw (x, c4, c5, c6) h))
    have k := tg_RFs h hb hq
    exact br_c (fun _ => br_c (fun _ => nm_r (nI_1 i) (hw (0, b4, b5, b6) k)) (fun _ => nm_r (nI_1 i) (hw (1, b4, b5, b6) k))) (fun _ => nm_r (nI_1 i) (hw (1, b4, b5, b6) k))
theorem tw_refine {post : St2 → Prop} {d : Nat} (hg : g ≤ 1) (hh : h ≤ 1) (hd : d ≤ 8) (h0 : tg_rng d a4) (H : ∀ b4 b5 b6, tg_RF (tg_sh a1 g h) d a4 b4 → post (3, (nI g), (nI h), pn, bs, hb, a1, a2, a3, b4, b5, b6, a7, a8, a9, a10, a11, a12, a13, a14)) : wpX_refine_2 post (3, (nI g), (nI h), pn, bs, hb, a1, a2, a3, a4, a5, a6, a7, a8, a9, a10, a11, a12, a13, a14) (nI d) := by
  refine pk_loop (σ := Int32 × (Nat → Int32) × (Nat → Int32) × (Nat → Int64)) (fun n i s => wX_refine_2_4 post (nI d) n s.1 (nI i) 3 (nI g) (nI h) pn bs hb a1 a2 a3 s.2.1 s.2.2.1 s.2.2.2 a7 a8 a9 a10 a11 a12 a13 a14) (fun i s => tg_RF (tg_sh a1 g h) d a4 s.2.1) 15 0 (1, a4, a5, a6) (by omega) (tg_RF0 h0) ?_ ?_
  · intro n s h
    exact pk_le 15 15 (fun _ => H s.2.1 s.2.2.1 s.2.2.2 h) (fun z => absurd z (by omega))
  · intro n i s hi h hw
    exact pk_le 15 i (fun z => absurd z (by omega)) (fun _ => br_c (fun _ => H s.2.1 s.2.2.1 s.2.2.2 h) (fun _ => tw_rf19 hg hh hd h (fun x b4 b5 b6 k => hw (x, b4, b5, b6) k)))
theorem tw_chooseX {post : St2 → Prop} {d : Nat} (hd : d ≤ 8) (hs : ∃ v, v < 3 ∧ tg_S (fun j => a4 (14 * d + j)) v)
    (H : ∀ x, x < 3 → tg_S (fun j => a4 (14 * d + j)) x → post (3, (nI g), (nI h), pn, bs, hb, a1, a2, a3, a4, a5, a6, (upd a7 d (nI x)), (upd a8 d (nI 7)), a9, a10, a11, a12, a13, a14)) : wpX_chooseX_2 post (3, (nI g), (nI h), pn, bs, hb, a1, a2, a3, a4, a5, a6, a7, a8, a9, a10, a11, a12, a13, a14) (nI d) := by
  have ed : (nI d).toNatClampNeg = d := nI_clamp (by omega)
  refine ⟨pk_in d 9 (by omega), ?_⟩
  rw [ed]
  refine nm_e (nm_e ⟨3 + 1, pk_loopD (σ := Nat) (fun n i x => wX_chooseX_2_17 post (nI d) 3 (nI g) (nI h) pn bs hb a1 a2 a3 a4 a5 a6 a7 (upd a8 d (nI 7)) a9 a10 a11 a12 a13 a14 n (nI x) (nI i - 1)) (fun i x => i ≤ 3 ∧ x < 3 ∧ ((∃ v, v < 3 ∧ i ≤ v ∧ tg_S (fun j => a4 (14 * d + j)) v) → tg_S (fun j => a4 (14 * d + j)) x)) ?_ ?_ 3 0 ⟨by omega, by omega, fun ⟨v, h1, h2, _⟩ => absurd h1 (by omega)⟩⟩)
  · intro n x h
    refine br_t (by decide) ⟨pk_in d 9 (by omega), ?_⟩
    rw [ed]
    obtain ⟨v, h1, h2⟩ := hs
    exact nm_e (H x h.2.1 (h.2.2 ⟨v, h1, Nat.zero_le v, h2⟩))
  · intro n i x h hw
    obtain ⟨h1, h2, h3⟩ := h
    show wX_chooseX_2_17 post (nI d) 3 (nI g) (nI h) pn bs hb a1 a2 a3 a4 a5 a6 a7 (upd a8 d (nI 7)) a9 a10 a11 a12 a13 a14 (n + 1) (nI x) (nI (i + 1) - 1)
    rw [nI_pred]
    refine br_f (nI_pos (by omega)) (tg_shared hd (by omega) (fun hS => br_f (by decide) (nm_r (tg_m1 i) (hw i ⟨by omega, by omega, fun _ => hS⟩))) (fun hS => br_t rfl (nm_r (tg_m1 i) (hw x ⟨by omega, h2, fun ⟨v, v1, v2, v3⟩ => ?_⟩))))
    by_cases ev : v = i
    · subst ev; exact absurd v3 hS
    · exact h3 ⟨v, v1, by omega, v3⟩
theorem tw_il82 {post : Int32 → St2 → Prop} {J72 : Int32 → Prop} {v : Nat} {π : Nat → Nat} (hg : g ≤ 1) (hh : h ≤ 1) (hv : v < 3) (hπ : ∀ v, v < 3 → π v < 3) (ha : ∀ j, j < 3 → a9 j = nI (7 + π j))
    (H1 : (∀ w, w < 3 → tg_sh a1 g h v w = tg_sh a1 g h (7 + π v) (7 + π w)) → J72 (nI (v + 1)))
    (H0 : ∀ w, w < 3 → ¬ tg_sh a1 g h v w = tg_sh a1 g h (7 + π v) (7 + π w) → post 0 (3, (nI g), (nI h), pn, bs, hb, a1, a2, a3, a4, a5, a6, a7, a8, a9, a10, a11, a12, a13, a14)) :
    ∃ n, wX_isLaying_2_82 post J72 (nI v) 3 (nI g) (nI h) pn bs hb a1 a2 a3 a4 a5 a6 a7 a8 a9 a10 a11 a12 a13 a14 n 0 := by
  refine pk_loop (σ := Unit) (fun n i _ => wX_isLaying_2_82 post J72 (nI v) 3 (nI g) (nI h) pn bs hb a1 a2 a3 a4 a5 a6 a7 a8 a9 a10 a11 a12 a13 a14 n (nI i)) (fun i _ => ∀ w, w < i → tg_sh a1 g h v w = tg_sh a1 g h (7 + π v) (7 + π w)) 3 0 () (by omega) (fun u hu => absurd hu (by omega)) ?_ ?_
  · intro n _ h
    exact pk_le 3 3 (fun _ => nm_r (nI_1 v) (H1 h)) (fun z => absurd z (by omega))
  · intro n i _ hi h hw
    have p1 := hπ v hv
    have p2 := hπ i hi
    refine pk_le 3 i (fun z => absurd z (by omega)) (fun _ => tg_shade hg hh (by omega) (by omega) (by omega) ⟨pk_in v 7 (by omega), pk_in i 7 (by omega), ?_⟩)
    rw [nI_clamp (show v < 2 ^ 31 by omega), nI_clamp (show i < 2 ^ 31 by omega), ha v hv, ha i hi]
    refine tg_shade hg hh (by omega) (by omega) (by omega) (br_c (fun e => nm_r (nI_1 i) (hw () (fun w hw' => ?_))) (fun e => H0 i hi e))
    by_cases ew : w = i
    · subst ew; exact e
    · exact h w (by omega)
theorem tw_il72 {post : Int32 → St2 → Prop} {π : Nat → Nat} (hg : g ≤ 1) (hh : h ≤ 1) (hπ : ∀ v, v < 3 → π v < 3) (ha : ∀ j, j < 3 → a9 j = nI (7 + π j))
    (H1 : tg_iso (tg_sh a1 g h) π → post 1 (3, (nI g), (nI h), pn, bs, hb, a1, a2, a3, a4, a5, a6, a7, a8, a9, a10, a11, a12, a13, a14)) (H0 : ¬ tg_iso (tg_sh a1 g h) π → post 0 (3, (nI g), (nI h), pn, bs, hb, a1, a2, a3, a4, a5, a6, a7, a8, a9, a10, a11, a12, a13, a14)) :
    ∃ n, wX_isLaying_2_72 post 3 (nI g) (nI h) pn bs hb a1 a2 a3 a4 a5 a6 a7 a8 a9 a10 a11 a12 a13 a14 n 0 := by
  refine pk_loop (σ := Unit) (fun n i _ => wX_isLaying_2_72 post 3 (nI g) (nI h) pn bs hb a1 a2 a3 a4 a5 a6 a7 a8 a9 a10 a11 a12 a13 a14 n (nI i)) (fun i _ => ∀ v w, v < i → w < 3 → tg_sh a1 g h v w = tg_sh a1 g h (7 + π v) (7 + π w)) 3 0 () (by omega) (fun u w hu => absurd hu (by omega)) ?_ ?_
  · intro n _ h
    exact pk_le 3 3 (fun _ => H1 (fun u v hu hv => h u v hu hv)) (fun z => absurd z (by omega))
  · intro n i _ hi h hw
    refine pk_le 3 i (fun z => absurd z (by omega)) (fun _ => tw_il82 hg hh hi hπ ha (fun k => hw () (fun v w hv hw' => ?_)) (fun w hw' ne => H0 (fun z => ne (z i w hi hw'))))
    by_cases ev : v = i
    · subst ev; exact k w hw'
    · exact h v w (by omega) hw'
theorem tw_il12 {post : Int32 → St2 → Prop} {J2 : Int32 → (Nat → Int32) → (Nat → Int32) → (Nat → Int32) → (Nat → Int32) → (Nat → Int32) → (Nat → Int64) → (Nat → Int32) → (Nat → Int32) → (Nat → Int32) → (Nat → Int32) → (Nat → Int32) → (Nat → Int64) → (Nat → Int64) → (Nat → Int32) → Prop} {d v : Nat} {π : Nat → Nat} (hd : d ≤ 8) (hv : v < 3) (hp : π v < 3) (hπ : ∀ w, w < 3 → (a4 (14 * d + (7 + w)) = a4 (14 * d + v) ↔ w = π v))
    (H : ∀ b9, (∀ j, j < v → b9 j = a9 j) → b9 v = nI (7 + π v) → J2 (nI (v + 1)) a1 a2 a3 a4 a5 a6 a7 a8 b9 a10 a11 a12 a13 a14) :
    ∃ n, wX_isLaying_2_12 post J2 (nI d) (nI v) 3 (nI g) (nI h) pn bs hb n 0 a1 a2 a3 a4 a5 a6 a7 a8 a9 a10 a11 a12 a13 a14 := by
  refine pk_loop (σ := Nat → Int32) (fun n i s => wX_isLaying_2_12 post J2 (nI d) (nI v) 3 (nI g) (nI h) pn bs hb n (nI i) a1 a2 a3 a4 a5 a6 a7 a8 s a10 a11 a12 a13 a14) (fun i s => (∀ j, j < v → s j = a9 j) ∧ (π v < i → s v = nI (7 + π v))) 3 0 a9 (by omega) ⟨fun _ _ => rfl, fun z => absurd z (by omega)⟩ ?_ ?_
  · intro n s h
    exact pk_le 3 3 (fun _ => nm_r (nI_1 v) (H s h.1 (h.2 hp))) (fun z => absurd z (by omega))
  · intro n i s hi h hw
    refine pk_le 3 i (fun z => absurd z (by omega)) (fun _ => ⟨pk_in (14 * d + (7 + i)) 128 (by omega) (tg_ix7' d i), pk_in (14 * d + v) 128 (by omega) (tg_ix d v), ?_⟩)
    rw [pk_cl _ (tg_ix7' d i), pk_cl _ (tg_ix d v)]
    refine br_c (fun e => ⟨pk_in v 7 (by omega), ?_⟩) (fun e => nm_r (nI_1 i) (hw s ⟨h.1, fun z => h.2 ?_⟩))
    · rw [nI_clamp (show v < 2 ^ 31 by omega), show (7 : Int32) + nI i = nI (7 + i) from nI_add 7 i]
      have ei := (hπ i hi).mp e
      refine nm_e (nm_r (nI_1 i) (hw _ ⟨fun j hj => ?_, fun _ => ?_⟩))
      · rw [pk_un (by omega)]; exact h.1 j hj
      · rw [pk_us, ei]
    · have ne : i ≠ π v := fun z => e ((hπ i hi).mpr z)
      omega
theorem tw_isLaying {post : Int32 → St2 → Prop} {d : Nat} {π : Nat → Nat} (hg : g ≤ 1) (hh : h ≤ 1) (hd : d ≤ 8) (hp : ∀ v, v < 3 → π v < 3) (hπ : ∀ v, v < 3 → ∀ w, w < 3 → (a4 (14 * d + (7 + w)) = a4 (14 * d + v) ↔ w = π v))
    (H1 : tg_iso (tg_sh a1 g h) π → ∀ b9, post 1 (3, (nI g), (nI h), pn, bs, hb, a1, a2, a3, a4, a5, a6, a7, a8, b9, a10, a11, a12, a13, a14)) (H0 : ¬ tg_iso (tg_sh a1 g h) π → ∀ b9, post 0 (3, (nI g), (nI h), pn, bs, hb, a1, a2, a3, a4, a5, a6, a7, a8, b9, a10, a11, a12, a13, a14)) : wpX_isLaying_2 post (3, (nI g), (nI h), pn, bs, hb, a1, a2, a3, a4, a5, a6, a7, a8, a9, a10, a11, a12, a13, a14) (nI d) := by
  refine pk_loop (σ := Nat → Int32) (fun n i s => wX_isLaying_2_2 post (nI d) 3 (nI g) (nI h) pn bs hb n (nI i) a1 a2 a3 a4 a5 a6 a7 a8 s a10 a11 a12 a13 a14) (fun i s => ∀ j, j < i → s j = nI (7 + π j)) 3 0 a9 (by omega) (fun j hj => absurd hj (by omega)) ?_ ?_
  · intro n s h
    exact pk_le 3 3 (fun _ => tw_il72 hg hh hp h (fun k => H1 k s) (fun k => H0 k s)) (fun z => absurd z (by omega))
  · intro n i s hi h hw
    refine pk_le 3 i (fun z => absurd z (by omega)) (fun _ => tw_il12 hd hi (hp i hi) (hπ i hi) (fun b9 k1 k2 => hw b9 (fun j hj => ?_)))
    by_cases ej : j = i
    · subst ej; exact k2
    · rw [k1 j (by omega)]; exact h j (by omega)
theorem tw_tn62 {post : Int32 → St2 → Prop} {d x y : Nat} (hd : d ≤ 7) (hx : x < 14) (hy : y < 14)
    (H : ∀ b4 b5 b6, tg_TN d x y a4 b4 → post 1 (3, (nI g), (nI h), pn, bs, hb, a1, a2, a3, b4, b5, b6, a7, a8, a9, a10, a11, a12, a13, a14)) :
    ∃ n, wX_tryNext_2_62 post (nI d) (nI x) (nI y) 3 (nI g) (nI h) pn bs hb n 0 a1 a2 a3 a4 a5 a6 a7 a8 a9 a10 a11 a12 a13 a14 := by
  refine pk_loop (σ := (Nat → Int32) × (Nat → Int64)) (fun n i s => wX_tryNext_2_62 post (nI d) (nI x) (nI y) 3 (nI g) (nI h) pn bs hb n (nI i) a1 a2 a3 s.1 a5 s.2 a7 a8 a9 a10 a11 a12 a13 a14) (fun i s => (∀ v, v < i → s.1 (14 * (d + 1) + v) = a4 (14 * d + v)) ∧ (∀ k, k < 14 * (d + 1) → s.1 k = a4 k) ∧ (∀ v, v < i → s.2 v = tg_xy x y v)) 14 0 (a4, a6) (by omega) ⟨fun j hj => absurd hj (by omega), fun _ _ => rfl, fun j hj => absurd hj (by omega)⟩ ?_ ?_
  · intro n s h
    refine pk_le 14 14 (fun _ => ?_) (fun z => absurd z (by omega))
    rw [nI_1]
    exact tw_regroup (by omega) (fun r b4 b5 hr => H b4 b5 s.2 (tg_mkTN h.1 h.2.1 h.2.2 hr))
  · intro n i s hi h hw
    obtain ⟨c4, c6⟩ := s
    obtain ⟨h1, h2, h3⟩ := h
    dsimp only at h1 h2 h3
    have e2 : (nI i).toNatClampNeg = i := nI_clamp (by omega)
    refine pk_le 14 i (fun z => absurd z (by omega)) (fun _ => ⟨pk_in (14 * d + i) 128 (by omega) (tg_ix d i), pk_in (14 * (d + 1) + i) 128 (by omega) (tg_ix14 d i), ?_⟩)
    rw [pk_cl _ (tg_ix d i), pk_cl _ (tg_ix14 d i)]
    have E : c4 (14 * d + i) = a4 (14 * d + i) := h2 _ (by omega)
    have K : ∀ m, m = tg_xy x y i → wX_tryNext_2_62 post (nI d) (nI x) (nI y) 3 (nI g) (nI h) pn bs hb n (nI (i + 1)) a1 a2 a3 (upd c4 (14 * (d + 1) + i) (c4 (14 * d + i))) a5 (vp_updL c6 i m) a7 a8 a9 a10 a11 a12 a13 a14 := by
      intro m hm
      refine hw (upd c4 (14 * (d + 1) + i) (c4 (14 * d + i)), vp_updL c6 i m) ⟨fun v hv => ?_, fun k hk => ?_, fun v hv => ?_⟩
      · show upd c4 (14 * (d + 1) + i) (c4 (14 * d + i)) (14 * (d + 1) + v) = a4 (14 * d + v)
        by_cases ev : v = i
        · subst ev; rw [pk_us]; exact E
        · rw [pk_un (by omega)]; exact h1 v (by omega)
      · show upd c4 (14 * (d + 1) + i) (c4 (14 * d + i)) k = a4 k
        rw [pk_un (by omega)]; exact h2 k hk
      · show vp_updL c6 i m v = tg_xy x y v
        by_cases ev : v = i
        · subst ev; rw [pk_uLs]; exact hm
        · rw [pk_uLn ev]; exact h3 v (by omega)
    refine nm_e (pk_eq i x (fun e => ⟨pk_in i 14 hi, ?_⟩) (fun e => pk_eq i y (fun e' => ⟨pk_in i 14 hi, ?_⟩) (fun e' => ⟨pk_in i 14 hi, ?_⟩)))
    · rw [e2]
      exact nm_e (nm_r (nI_1 i) (K 1 (by rw [tg_xy, if_pos (Or.inl e)])))
    · rw [e2]
      exact nm_e (nm_r (nI_1 i) (K 1 (by rw [tg_xy, if_pos (Or.inr e')])))
    · rw [e2]
      exact nm_e (nm_r (nI_1 i) (K 0 (by rw [tg_xy, if_neg (fun z => z.elim e e')])))
theorem tw_tryNext {post : Int32 → St2 → Prop} {d x y0 : Nat} (hd : d ≤ 7) (hx : x < 3) (h7 : a7 d = nI x) (h8 : a8 d = nI y0) (hy : 7 ≤ y0) (hy' : y0 ≤ 10)
    (H0 : (∀ y, y0 ≤ y → y < 10 → ¬ a4 (14 * d + y) = a4 (14 * d + x)) → post 0 (3, (nI g), (nI h), pn, bs, hb, a1, a2, a3, a4, a5, a6, a7, a8, a9, a10, a11, a12, a13, a14))
    (H1 : ∀ y, y0 ≤ y → y < 10 → a4 (14 * d + y) = a4 (14 * d + x) → (∀ y', y0 ≤ y' → y' < y → ¬ a4 (14 * d + y') = a4 (14 * d + x)) → ∀ b4 b5 b6, tg_TN d x y a4 b4 → post 1 (3, (nI g), (nI h), pn, bs, hb, a1, a2, a3, b4, b5, b6, a7, (upd a8 d (nI (y + 1))), a9, a10, a11, a12, a13, a14)) :
    wpX_tryNext_2 post (3, (nI g), (nI h), pn, bs, hb, a1, a2, a3, a4, a5, a6, a7, a8, a9, a10, a11, a12, a13, a14) (nI d) := by
  have ed : (nI d).toNatClampNeg = d := nI_clamp (by omega)
  refine ⟨pk_in d 9 (by omega), ?_⟩
  rw [ed]
  refine nm_r h7 ⟨pk_in d 9 (by omega), ?_⟩
  refine nm_r h8 (pk_loop (σ := Unit) (fun n i _ => wX_tryNext_2_14 post (nI d) (nI x) 3 (nI g) (nI h) pn bs hb a1 a2 a3 a4 a5 a6 a7 a8 a9 a10 a11 a12 a13 a14 n (nI i)) (fun i _ => y0 ≤ i ∧ ∀ y, y0 ≤ y → y < i → ¬ a4 (14 * d + y) = a4 (14 * d + x)) 10 y0 () hy' ⟨Nat.le_refl _, fun y h1 h2 => absurd h2 (by omega)⟩ ?_ ?_)
  · intro n _ h
    exact pk_le 10 10 (fun _ => H0 h.2) (fun z => absurd z (by omega))
  · intro n i _ hi h hw
    obtain ⟨k1, k2⟩ := h
    refine pk_le 10 i (fun z => absurd z (by omega)) (fun _ => ⟨pk_in (14 * d + i) 128 (by omega) (tg_ix d i), pk_in (14 * d + x) 128 (by omega) (tg_ix d x), ?_⟩)
    rw [pk_cl _ (tg_ix d i), pk_cl _ (tg_ix d x)]
    refine br_c (fun e => ⟨pk_in d 9 (by omega), ?_⟩) (fun e => nm_r (nI_1 i) (hw () ⟨by omega, fun y h1 h2 => ?_⟩))
    · rw [ed, nI_1]
      exact nm_e (tw_tn62 hd (by omega) (by omega) (fun b4 b5 b6 ht => H1 i k1 hi e k2 b4 b5 b6 ht))
    · by_cases ey : y = i
      · subst ey; exact e
      · exact k2 y h1 (by omega)
theorem tw_sc60 {post : St2 → Prop} {K : Nat} {p q : Nat → Nat} (hK : K ≤ 7) (hm : tg_pm a2 a3 K p q) (h0 : ∀ x, x < 3 → a6 x = 0 ∧ a6 (7 + x) = 0)
    (H : ∀ b4 b5 b6, tg_RG 0 a4 b6 b4 → (∀ x, x < 3 → b6 x = lN (4 * tg_s p K x) ∧ b6 (7 + x) = lN (4 * tg_s q K x)) → post (3, (nI g), (nI h), (nI K), bs, hb, a1, a2, a3, b4, b5, b6, a7, a8, a9, a10, a11, a12, a13, a14)) :
    ∃ n, wX_startClasses_2_60 post 3 (nI g) (nI h) (nI K) bs hb n 0 a1 a2 a3 a4 a5 a6 a7 a8 a9 a10 a11 a12 a13 a14 := by
  refine pk_loop (σ := Nat → Int64) (fun n i s => wX_startClasses_2_60 post 3 (nI g) (nI h) (nI K) bs hb n (nI i) a1 a2 a3 a4 a5 s a7 a8 a9 a10 a11 a12 a13 a14) (fun i s => ∀ x, x < 3 → s x = lN (4 * tg_s p i x) ∧ s (7 + x) = lN (4 * tg_s q i x)) K 0 a6 (by omega) (fun x hx => ⟨(h0 x hx).1, (h0 x hx).2⟩) ?_ ?_
  · intro n s h
    exact pk_le K K (fun _ => tw_regroup (d := 0) (by omega) (fun r b4 b5 hr => H b4 b5 s hr h)) (fun z => absurd z (by omega))
  · intro n i s hi h hw
    obtain ⟨m1, m2, m3, m4⟩ := hm i hi
    have e2 : (nI i).toNatClampNeg = i := nI_clamp (by omega)
    have ep : (nI (p i)).toNatClampNeg = p i := nI_clamp (by omega)
    have eq' : (7 + nI (q i)).toNatClampNeg = 7 + q i := pk_cl _ (nI_add 7 (q i))
    have el : (4 * (nI i + 1)).toInt64 = lN (4 * (i + 1)) := by
      rw [nI_1, show (4 : Int32) = nI 4 from rfl, pk_mul, nI_l (by omega)]
    refine pk_le K i (fun z => absurd z (by omega)) (fun _ => ⟨pk_in i 7 (by omega), ?_⟩)
    rw [e2, m1, m3, ep]
    refine ⟨pk_in (p i) 14 (by omega), pk_in (p i) 14 (by omega), nm_e ⟨pk_in i 7 (by omega), pk_in (7 + q i) 14 (by omega) (nI_add 7 (q i)), pk_in (7 + q i) 14 (by omega) (nI_add 7 (q i)), ?_⟩⟩
    rw [eq', el]
    refine nm_e (nm_r (nI_1 i) (hw _ (fun x hx => ⟨?_, ?_⟩)))
    · rw [pk_uLn (by omega)]
      by_cases ex : p i = x
      · subst ex
        rw [pk_uLs, (h _ hx).1, lN_add]
        show _ = lN (4 * (tg_s p i (p i) + if p i = p i then i + 1 else 0))
        rw [if_pos rfl]
        congr 1
        omega
      · rw [pk_uLn (fun z => ex z.symm), (h x hx).1]
        show _ = lN (4 * (tg_s p i x + if p i = x then i + 1 else 0))
        rw [if_neg ex, Nat.add_zero]
    · by_cases ex : q i = x
      · subst ex
        rw [pk_uLs, pk_uLn (by omega), (h _ hx).2, lN_add]
        show _ = lN (4 * (tg_s q i (q i) + if q i = q i then i + 1 else 0))
        rw [if_pos rfl]
        congr 1
        omega
      · rw [pk_uLn (by omega), pk_uLn (by omega), (h x hx).2]
        show _ = lN (4 * (tg_s q i x + if q i = x then i + 1 else 0))
        rw [if_neg ex, Nat.add_zero]
theorem tw_sc26 {post : St2 → Prop} {J2 : Int32 → (Nat → Int32) → (Nat → Int32) → (Nat → Int32) → (Nat → Int32) → (Nat → Int32) → (Nat → Int64) → (Nat → Int32) → (Nat → Int32) → (Nat → Int32) → (Nat → Int32) → (Nat → Int32) → (Nat → Int64) → (Nat → Int64) → (Nat → Int32) → Prop} {v : Nat} {z : Int32} (hg : g ≤ 1) (hh : h ≤ 1) (hz : ∀ v, v < 14 → tg_U v → tg_sh a1 g h v v = 0) (hv : v < 14)
    (H : J2 (nI (v + 1)) a1 a2 a3 (upd a4 v z) a5 (vp_updL a6 v 0) a7 a8 a9 a10 a11 a12 a13 a14) : wX_startClasses_2_26 post J2 (nI v) z (nI v) 3 (nI g) (nI h) pn bs hb a1 a2 a3 a4 a5 a6 a7 a8 a9 a10 a11 a12 a13 a14 := by
  have e2 : (nI v).toNatClampNeg = v := nI_clamp (by omega)
  refine ⟨pk_in v 128 (by omega), ?_⟩
  rw [e2]
  refine nm_e (tg_inU hv (fun hU => br_f (by decide) (tg_shade hg hh hv hv Iff.rfl ⟨pk_in v 14 hv, ?_⟩)) (fun hU => br_t rfl ⟨pk_in v 14 hv, ?_⟩))
  · rw [hz v hv hU]
    exact nm_e (nm_r (nI_1 v) H)
  · exact nm_e (nm_r (nI_1 v) H)
theorem tw_startClasses {post : St2 → Prop} {K : Nat} {p q : Nat → Nat} (hg : g ≤ 1) (hh : h ≤ 1) (hz : ∀ v, v < 14 → tg_U v → tg_sh a1 g h v v = 0) (hK : K ≤ 7) (hm : tg_pm a2 a3 K p q)
    (H : ∀ b4 b5 b6, tg_rng 0 b4 → (∀ x y, x < 3 → y < 3 → (b4 (14 * 0 + x) = b4 (14 * 0 + (7 + y)) ↔ tg_s p K x = tg_s q K y)) → post (3, (nI g), (nI h), (nI K), bs, hb, a1, a2, a3, b4, b5, b6, a7, a8, a9, a10, a11, a12, a13, a14)) :
    wpX_startClasses_2 post (3, (nI g), (nI h), (nI K), bs, hb, a1, a2, a3, a4, a5, a6, a7, a8, a9, a10, a11, a12, a13, a14) := by
  refine pk_loop (σ := (Nat → Int32) × (Nat → Int64)) (fun n i s => wX_startClasses_2_2 post 3 (nI g) (nI h) (nI K) bs hb n (nI i) a1 a2 a3 s.1 a5 s.2 a7 a8 a9 a10 a11 a12 a13 a14) (fun i s => (∀ v, v < i → tg_U v → s.1 v = 0) ∧ (∀ v, v < i → s.2 v = 0)) 14 0 (a4, a6) (by omega) ⟨fun j hj => absurd hj (by omega), fun j hj => absurd hj (by omega)⟩ ?_ ?_
  · intro n s h
    refine pk_le 14 14 (fun _ => tw_sc60 hK hm (fun x hx => ⟨h.2 x (by omega), h.2 (7 + x) (by omega)⟩) (fun b4 b5 b6 hr hb => H b4 b5 b6 hr.2.1 (fun x y hx hy => ?_))) (fun z => absurd z (by omega))
    have b1 := tg_s_le p x K hK
    have b2 := tg_s_le q y K hK
    have c1 : s.1 (14 * 0 + x) = 0 := h.1 (14 * 0 + x) (by omega) (Or.inl (by omega))
    have c2 : s.1 (14 * 0 + (7 + y)) = 0 := h.1 (14 * 0 + (7 + y)) (by omega) (Or.inr (by omega))
    rw [hr.1 x (7 + y) (by omega) (by omega), c1, c2, (hb x hx).1, (hb y hy).2, pk_lEQ (by omega) (by omega)]
    constructor
    · intro e; omega
    · intro e; exact ⟨rfl, by omega⟩
  · intro n i s hi h hw
    obtain ⟨c4, c6⟩ := s
    obtain ⟨h1, h2⟩ := h
    dsimp only at h1 h2
    have K0 : ∀ z, (tg_U i → z = 0) → wX_startClasses_2_2 post 3 (nI g) (nI h) (nI K) bs hb n (nI (i + 1)) a1 a2 a3 (upd c4 i z) a5 (vp_updL c6 i 0) a7 a8 a9 a10 a11 a12 a13 a14 := by
      intro z hz0
      refine hw (upd c4 i z, vp_updL c6 i 0) ⟨fun v hv hU => ?_, fun v hv => ?_⟩
      · show upd c4 i z v = 0
        by_cases ev : v = i
        · subst ev; rw [pk_us]; exact hz0 hU
        · rw [pk_un ev]; exact h1 v (by omega) hU
      · show vp_updL c6 i 0 v = 0
        by_cases ev : v = i
        · subst ev; rw [pk_uLs]
        · rw [pk_uLn ev]; exact h2 v (by omega)
    exact pk_le 14 i (fun z => absurd z (by omega)) (fun _ => tg_inU hi (fun hU => br_f (by decide) (tw_sc26 hg hh hz hi (K0 0 (fun _ => rfl)))) (fun hU => br_t rfl (tw_sc26 hg hh hz hi (K0 (nI i) (fun z => absurd z hU)))))
theorem tw_enter {post : Int32 → St2 → Prop} {d m s : Nat} (hg : g ≤ 1) (hh : h ≤ 1) (hd : d ≤ 7) (hs : m + 1 + s ≤ 1000) (hr : tg_rng d a4)
    (Hy : tg_Lay (tg_sh a1 g h) (fun j => a4 (14 * d + j)) → ∀ (b4 b5 : Nat → Int32) (b6 : Nat → Int64) (b7 b8 b9 : Nat → Int32), post 1 (3, (nI g), (nI h), pn, bs, hb, a1, a2, a3, b4, b5, b6, b7, b8, b9, a10, a11, a12, a13, a14))
    (Hn : ¬ tg_Lay (tg_sh a1 g h) (fun j => a4 (14 * d + j)) → ∀ (b4 b5 : Nat → Int32) (b6 : Nat → Int64) (b9 : Nat → Int32), (∀ k, k < 14 * d → b4 k = a4 k) → wX_exists_2_10 post m (nI d - 1) 0 (nI (s + 1)) 3 (nI g) (nI h) pn bs hb a1 a2 a3 b4 b5 b6 a7 a8 b9 a10 a11 a12 a13 a14)
    (H2 : ∀ (b4 b5 : Nat → Int32) (b6 : Nat → Int64) (x : Nat), tg_RF (tg_sh a1 g h) d a4 b4 → x < 3 → tg_S (fun j => b4 (14 * d + j)) x → wX_exists_2_10 post m (nI d) 0 (nI (s + 1)) 3 (nI g) (nI h) pn bs hb a1 a2 a3 b4 b5 b6 (upd a7 d (nI x)) (upd a8 d (nI 7)) a9 a10 a11 a12 a13 a14) :
    wX_exists_2_10 post (m + 1) (nI d) 1 (nI s) 3 (nI g) (nI h) pn bs hb a1 a2 a3 a4 a5 a6 a7 a8 a9 a10 a11 a12 a13 a14 := by
  refine pk_le 60000 s (fun z => absurd z (by omega)) (fun _ => br_f (nI_pos (by omega)) (br_f (by decide) (tw_refine hg hh (by omega) hr (fun b4 b5 b6 hRF => ?_))))
  refine tg_balance (by omega) (fun c ne => ?_) (fun h1 => ?_) (fun c h2 => ?_)
  · refine br_f (by decide) (br_f (by decide) (nm_r (tg_m1 d) (nm_r (nI_1 s) (Hn ?_ b4 b5 b6 a9 (fun k hk => hRF.2.2.2 k (Or.inl hk))))))
    rintro ⟨π, hL, hC⟩
    exact ne (tg_cnt_con hL.1 (hRF.2.1 π hL hC))
  · obtain ⟨π, hb, hu⟩ := tg_one hRF.2.2.1 h1
    refine br_t rfl (tw_isLaying hg hh (by omega) hb.1 hu (fun hi b9 => br_f (by decide) (Hy ?_ b4 b5 b6 a7 a8 b9)) (fun hi b9 => br_t rfl (br_f (by decide) (nm_r (tg_m1 d) (nm_r (nI_1 s) (Hn ?_ b4 b5 b6 b9 (fun k hk => hRF.2.2.2 k (Or.inl hk))))))))
    · refine ⟨π, ⟨hb, hi⟩, tg_RFlay hRF ⟨hb, hi⟩ (fun v hv => ?_)⟩
      exact ((hu v hv (π v) (hb.1 v hv)).mpr rfl).symm
    · rintro ⟨π', hL, hC⟩
      have hC' := hRF.2.1 π' hL hC
      exact hi (tg_isoc hL.2 (fun v hv => (hu v hv (π' v) (hL.1.1 v hv)).mp (hC' v hv).symm))
  · obtain ⟨u, v, hu, hv, ne, e⟩ := tg_cnt_two h2
    exact br_f (by decide) (br_t rfl (tw_chooseX (by omega) ⟨v, hv, u, hu, ne, e⟩ (fun x hx hS => nm_r (nI_1 s) (H2 b4 b5 b6 x hRF hx hS))))
def tw_P (post : Int32 → St2 → Prop) (g h : Nat) (pn : Int32) (bs : Int64) (hb : Int32) (a1 a2 a3 a10 a11 : Nat → Int32) (a12 a13 : Nat → Int64) (a14 : Nat → Int32) (d T : Nat) (A : (Nat → Int32) → Prop) : Prop :=
  ∀ (n s : Nat) (a4 a5 : Nat → Int32) (a6 : Nat → Int64) (a7 a8 a9 : Nat → Int32), T ≤ n → n + s ≤ 1000 → A (fun j => a4 (14 * d + j)) → tg_rng d a4 →
    (tg_Lay (tg_sh a1 g h) (fun j => a4 (14 * d + j)) → ∀ (b4 b5 : Nat → Int32) (b6 : Nat → Int64) (b7 b8 b9 : Nat → Int32), post 1 (3, (nI g), (nI h), pn, bs, hb, a1, a2, a3, b4, b5, b6, b7, b8, b9, a10, a11, a12, a13, a14)) →
    (¬ tg_Lay (tg_sh a1 g h) (fun j => a4 (14 * d + j)) → ∀ (n' s' : Nat), ∀ (b4 b5 : Nat → Int32) (b6 : Nat → Int64) (b7 b8 b9 : Nat → Int32), n ≤ n' + T → n' + s' = n + s → (∀ k, k < 14 * d → b4 k = a4 k) → (∀ k, k < d → b7 k = a7 k ∧ b8 k = a8 k) → wX_exists_2_10 post n' (nI d - 1) 0 (nI s') 3 (nI g) (nI h) pn bs hb a1 a2 a3 b4 b5 b6 b7 b8 b9 a10 a11 a12 a13 a14) →
    wX_exists_2_10 post n (nI d) 1 (nI s) 3 (nI g) (nI h) pn bs hb a1 a2 a3 a4 a5 a6 a7 a8 a9 a10 a11 a12 a13 a14
theorem tw_leaf {post : Int32 → St2 → Prop} {d : Nat} (hg : g ≤ 1) (hh : h ≤ 1) (hd : d ≤ 7) : tw_P post g h pn bs hb a1 a2 a3 a10 a11 a12 a13 a14 d 1 tg_D := by
  intro n s a4 a5 a6 a7 a8 a9 hn hs hA hr Hy Hno
  obtain ⟨m, rfl⟩ : ∃ m, n = m + 1 := ⟨n - 1, by omega⟩
  refine tw_enter hg hh hd hs hr Hy (fun hl b4 b5 b6 b9 hk => Hno hl m (s + 1) b4 b5 b6 a7 a8 b9 (by omega) (by omega) hk (fun k _ => ⟨rfl, rfl⟩)) (fun b4 b5 b6 x hRF hx hS => ?_)
  obtain ⟨u, hu, hne, e⟩ := hS
  exact absurd (hA u x hu hx (hRF.1 u x (by omega) (by omega) e)) hne
theorem tw_try {post : Int32 → St2 → Prop} {d T x : Nat} {A' : (Nat → Int32) → Prop} (hd : d ≤ 6) (hx : x < 3) (hP : tw_P post g h pn bs hb a1 a2 a3 a10 a11 a12 a13 a14 (d + 1) T A') :
    ∀ (r y0 n s : Nat) (a4 a5 : Nat → Int32) (a6 : Nat → Int64) (a7 a8 a9 : Nat → Int32), y0 + r = 10 → 7 ≤ y0 → r * (T + 1) + 1 ≤ n → n + s ≤ 1000 → (∀ c4 y, 7 ≤ y → tg_TN d x y a4 c4 → A' (fun j => c4 (14 * (d + 1) + j))) → a7 d = nI x → a8 d = nI y0 →
      (∀ π, tg_L (tg_sh a1 g h) π → tg_con (fun j => a4 (14 * d + j)) π → y0 ≤ 7 + π x) →
      (tg_Lay (tg_sh a1 g h) (fun j => a4 (14 * d + j)) → ∀ (b4 b5 : Nat → Int32) (b6 : Nat → Int64) (b7 b8 b9 : Nat → Int32), post 1 (3, (nI g), (nI h), pn, bs, hb, a1, a2, a3, b4, b5, b6, b7, b8, b9, a10, a11, a12, a13, a14)) →
      (¬ tg_Lay (tg_sh a1 g h) (fun j => a4 (14 * d + j)) → ∀ (n' s' : Nat), ∀ (b4 b5 : Nat → Int32) (b6 : Nat → Int64) (b7 b8 b9 : Nat → Int32), n ≤ n' + (r * (T + 1) + 1) → n' + s' = n + s → (∀ k, k < 14 * d → b4 k = a4 k) → (∀ k, k < d → b7 k = a7 k ∧ b8 k = a8 k) → wX_exists_2_10 post n' (nI d - 1) 0 (nI s') 3 (nI g) (nI h) pn bs hb a1 a2 a3 b4 b5 b6 b7 b8 b9 a10 a11 a12 a13 a14) →
      wX_exists_2_10 post n (nI d) 0 (nI s) 3 (nI g) (nI h) pn bs hb a1 a2 a3 a4 a5 a6 a7 a8 a9 a10 a11 a12 a13 a14 := by
  intro r
  induction r using Nat.strongRecOn with
  | ind r ih =>
    intro y0 n s a4 a5 a6 a7 a8 a9 hr hy hn hs hA h7 h8 hlow Hy Hno
    obtain ⟨m, rfl⟩ : ∃ m, n = m + 1 := ⟨n - 1, by omega⟩
    refine pk_le 60000 s (fun z => absurd z (by omega)) (fun _ => br_f (nI_pos (by omega)) (br_t rfl (tw_tryNext (by omega) hx h7 h8 hy (by omega) (fun hno => ?_) (fun y y1 y2 ye ymin b4 b5 b6 hT => ?_))))
    · refine br_t rfl (nm_r (tg_m1 d) (nm_r (nI_1 s) (Hno ?_ m (s + 1) a4 a5 a6 a7 a8 a9 (by omega) (by omega) (fun _ _ => rfl) (fun _ _ => ⟨rfl, rfl⟩))))
      rintro ⟨π, hL, hC⟩
      have hp := hL.1.1 x hx
      exact hno (7 + π x) (hlow π hL hC) (by omega) (hC x hx).symm
    · have hmul : (10 - (y + 1) + 1) * (T + 1) ≤ r * (T + 1) := Nat.mul_le_mul_right (T + 1) (by omega)
      rw [Nat.succ_mul] at hmul
      refine br_f (by decide) (nm_r (nI_1 d) (nm_r (nI_1 s) (hP m (s + 1) b4 b5 b6 a7 (upd a8 d (nI (y + 1))) a9 (by omega) (by omega) (hA b4 y (by omega) hT) hT.2.1 (fun hl => ?_) (fun hl n' s' c4 c5 c6 c7 c8 c9 q1 q2 q3 q4 => ?_))))
      · obtain ⟨π, hL, hC⟩ := hl
        exact Hy ⟨π, hL, tg_TNlay (sh := tg_sh a1 g h) hT hL.1 hC⟩
      · rw [nI_pred]
        have qa : ∀ k, k < 14 * (d + 1) → c4 k = a4 k := fun k hk => by rw [q3 k hk, hT.2.2 k hk]
        have qb : ∀ k, k < 14 * (d + 1) → a4 k = c4 k := fun k hk => (qa k hk).symm
        refine ih (10 - (y + 1)) (by omega) (y + 1) n' s' c4 c5 c6 c7 c8 c9 (by omega) (by omega) (by omega) (by omega) (fun z4 y' hy' ht => hA z4 y' hy' (tg_TNc qa ht)) (by rw [(q4 d (by omega)).1]; exact h7) (by rw [(q4 d (by omega)).2]; exact pk_us) (fun π hL hC => ?_) (fun hl' => ?_) (fun hl' n'' s'' e4 e5 e6 e7 e8 e9 w1 w2 w3 w4 => ?_)
        · have hC' := tg_conc qa hL.1 hC
          have l1 := hlow π hL hC'
          have hp := hL.1.1 x hx
          by_cases l2 : 7 + π x < y
          · exact absurd (hC' x hx).symm (ymin (7 + π x) l1 l2)
          · by_cases l3 : y = 7 + π x
            · exact absurd ⟨π, hL, tg_TNcon hT hx l3 hL.1 hC'⟩ hl
            · omega
        · obtain ⟨π, hL, hC⟩ := hl'
          exact Hy ⟨π, hL, tg_conc qa hL.1 hC⟩
        · refine Hno (fun hl2 => ?_) n'' s'' e4 e5 e6 e7 e8 e9 (by omega) (by omega) (fun k hk => by rw [w3 k hk, qa k (by omega)]) (fun k hk => ⟨?_, ?_⟩)
          · obtain ⟨π, hL, hC⟩ := hl2
            exact hl' ⟨π, hL, tg_conc qb hL.1 hC⟩
          · rw [(w4 k hk).1, (q4 k (by omega)).1]
          · rw [(w4 k hk).2, (q4 k (by omega)).2, pk_un (by omega)]
theorem tw_node {post : Int32 → St2 → Prop} {d T : Nat} {A A' : (Nat → Int32) → Prop} (hg : g ≤ 1) (hh : h ≤ 1) (hd : d ≤ 6) (hP : tw_P post g h pn bs hb a1 a2 a3 a10 a11 a12 a13 a14 (d + 1) T A')
    (hA : ∀ a4 b4 c4 x y, A (fun j => a4 (14 * d + j)) → tg_RF (tg_sh a1 g h) d a4 b4 → x < 3 → tg_S (fun j => b4 (14 * d + j)) x → 7 ≤ y → tg_TN d x y b4 c4 → A' (fun j => c4 (14 * (d + 1) + j))) :
    tw_P post g h pn bs hb a1 a2 a3 a10 a11 a12 a13 a14 d (3 * (T + 1) + 2) A := by
  intro n s a4 a5 a6 a7 a8 a9 hn hs hA0 hr Hy Hno
  obtain ⟨m, rfl⟩ : ∃ m, n = m + 1 := ⟨n - 1, by omega⟩
  refine tw_enter hg hh (by omega) hs hr Hy (fun hl b4 b5 b6 b9 hk => Hno hl m (s + 1) b4 b5 b6 a7 a8 b9 (by omega) (by omega) hk (fun k _ => ⟨rfl, rfl⟩)) (fun b4 b5 b6 x hRF hx hS => ?_)
  refine tw_try hd hx hP 3 7 m (s + 1) b4 b5 b6 (upd a7 d (nI x)) (upd a8 d (nI 7)) a9 (by omega) (by omega) (by omega) (by omega) (fun c4 y hy ht => hA a4 b4 c4 x y hA0 hRF hx hS hy ht) pk_us pk_us (fun π _ _ => by omega) (fun hl => ?_) (fun hl n' s' c4 c5 c6 c7 c8 c9 q1 q2 q3 q4 => ?_)
  · obtain ⟨π, hL, hC⟩ := hl
    exact Hy ⟨π, hL, tg_RFlay hRF hL hC⟩
  · refine Hno (fun hl2 => ?_) n' s' c4 c5 c6 c7 c8 c9 (by omega) (by omega) (fun k hk => by rw [q3 k hk, hRF.2.2.2 k (Or.inl hk)]) (fun k hk => ⟨?_, ?_⟩)
    · obtain ⟨π, hL, hC⟩ := hl2
      exact hl ⟨π, hL, hRF.2.1 π hL hC⟩
    · rw [(q4 k hk).1, pk_un (by omega)]
    · rw [(q4 k hk).2, pk_un (by omega)]
theorem tw_P1 {post : Int32 → St2 → Prop} (hg : g ≤ 1) (hh : h ≤ 1) : tw_P post g h pn bs hb a1 a2 a3 a10 a11 a12 a13 a14 1 8 tg_I1 := by
  refine tw_node (T := 1) hg hh (by omega) (tw_leaf hg hh (by omega)) (fun a4 b4 c4 x y hI hRF hx hS hy hT u v hu hv e => ?_)
  obtain ⟨x0, hx0, hi⟩ := hI
  obtain ⟨w, hw, hwx, ew⟩ := hS
  obtain ⟨k1, k2⟩ := (hT.1 u v (by omega) (by omega)).mp e
  have hb : ∀ u, u < 3 → u ≠ x0 → ¬ b4 (14 * 1 + u) = b4 (14 * 1 + x0) := fun u hu hn z => hi u hu hn (hRF.1 u x0 (by omega) (by omega) z)
  have n0 : x0 ≠ x := fun z => by
    subst z
    exact hb w hw hwx ew
  by_cases euv : u = v
  · exact euv
  · exfalso
    have k3 : u = x ↔ v = x := ⟨fun z => by have := k2.mp (Or.inl z); omega, fun z => by have := k2.mpr (Or.inl z); omega⟩
    have k4 : u ≠ x := fun z => by have := k3.mp z; omega
    have k5 : v ≠ x := fun z => by have := k3.mpr z; omega
    have k6 : x0 = u ∨ x0 = v := by omega
    rcases k6 with z | z
    · subst z; exact hb v hv (fun z => euv z.symm) k1.symm
    · subst z; exact hb u hu euv k1
theorem tw_P0 {post : Int32 → St2 → Prop} (hg : g ≤ 1) (hh : h ≤ 1) : tw_P post g h pn bs hb a1 a2 a3 a10 a11 a12 a13 a14 0 29 (fun _ => True) := by
  refine tw_node (T := 8) hg hh (by omega) (tw_P1 hg hh) (fun a4 b4 c4 x y hI hRF hx hS hy hT => ⟨x, hx, fun u hu hn e => ?_⟩)
  have k := ((hT.1 u x (by omega) (by omega)).mp e).2.mpr (Or.inl rfl)
  omega
theorem tw_exists0 {post : Int32 → St2 → Prop} {K : Nat} {p q : Nat → Nat} (hg : g ≤ 1) (hh : h ≤ 1) (hz : ∀ v, v < 14 → tg_U v → tg_sh a1 g h v v = 0) (hK : K ≤ 7) (hm : tg_pm a2 a3 K p q)
    (H1 : tg_Ex (tg_sh a1 g h) K p q → ∀ (b4 b5 : Nat → Int32) (b6 : Nat → Int64) (b7 b8 b9 : Nat → Int32), post 1 (3, (nI g), (nI h), (nI K), bs, hb, a1, a2, a3, b4, b5, b6, b7, b8, b9, a10, a11, a12, a13, a14)) (H0 : ¬ tg_Ex (tg_sh a1 g h) K p q → ∀ (b4 b5 : Nat → Int32) (b6 : Nat → Int64) (b7 b8 b9 : Nat → Int32), post 0 (3, (nI g), (nI h), (nI K), bs, hb, a1, a2, a3, b4, b5, b6, b7, b8, b9, a10, a11, a12, a13, a14)) : wpX_exists_2 post (3, (nI g), (nI h), (nI K), bs, hb, a1, a2, a3, a4, a5, a6, a7, a8, a9, a10, a11, a12, a13, a14) := by
  refine tw_startClasses hg hh hz hK hm (fun b4 b5 b6 hr hb => ⟨30, ?_⟩)
  have I : ∀ π, tg_bij π → (tg_con (fun j => b4 (14 * 0 + j)) π ↔ ∀ v, v < 3 → tg_s p K v = tg_s q K (π v)) := fun π hπ =>
    ⟨fun z v hv => (hb v (π v) hv (hπ.1 v hv)).mp (z v hv), fun z v hv => (hb v (π v) hv (hπ.1 v hv)).mpr (z v hv)⟩
  refine tw_P0 hg hh 30 0 b4 b5 b6 a7 a8 a9 (by omega) (by omega) trivial hr (fun hl => H1 ?_) (fun hl n' s' c4 c5 c6 c7 c8 c9 q1 q2 q3 q4 => ?_)
  · obtain ⟨π, hL, hC⟩ := hl
    exact ⟨π, hL, (I π hL.1).mp hC⟩
  · obtain ⟨m, rfl⟩ : ∃ m, n' = m + 1 := ⟨n' - 1, by omega⟩
    refine pk_le 60000 s' (fun z => absurd z (by omega)) (fun _ => br_t (by decide) (H0 ?_ c4 c5 c6 c7 c8 c9))
    rintro ⟨π, hL, hC⟩
    exact hl ⟨π, hL, (I π hL.1).mpr hC⟩
theorem tw_exists {post : Int32 → St2 → Prop} {K : Nat} {p q : Nat → Nat} {f : Nat → Bool} (hf : tg_XY a1 g h f) (hK : K ≤ 7) (hm : tg_pm a2 a3 K p q)
    (H1 : tg_exB f K p q = true → ∀ (b4 b5 : Nat → Int32) (b6 : Nat → Int64) (b7 b8 b9 : Nat → Int32), post 1 (3, (nI g), (nI h), (nI K), bs, hb, a1, a2, a3, b4, b5, b6, b7, b8, b9, a10, a11, a12, a13, a14)) (H0 : tg_exB f K p q = false → ∀ (b4 b5 : Nat → Int32) (b6 : Nat → Int64) (b7 b8 b9 : Nat → Int32), post 0 (3, (nI g), (nI h), (nI K), bs, hb, a1, a2, a3, b4, b5, b6, b7, b8, b9, a10, a11, a12, a13, a14)) : wpX_exists_2 post (3, (nI g), (nI h), (nI K), bs, hb, a1, a2, a3, a4, a5, a6, a7, a8, a9, a10, a11, a12, a13, a14) := by
  refine tw_exists0 hf.1 hf.2.1 hf.2.2.1 hK hm (fun k => H1 ((tg_exI hf).mpr k)) (fun k => H0 ?_)
  cases e : tg_exB f K p q
  · rfl
  · exact absurd ((tg_exI hf).mp e) k
theorem tw_pin {post : St2 → Prop} {K x y : Nat} (hK : K ≤ 6) (H : post (3, (nI g), (nI h), (nI (K + 1)), bs, hb, a1, (upd a2 K (nI x)), (upd a3 K (nI y)), a4, a5, a6, a7, a8, a9, a10, a11, a12, a13, a14)) : wpX_pin_2 post (3, (nI g), (nI h), (nI K), bs, hb, a1, a2, a3, a4, a5, a6, a7, a8, a9, a10, a11, a12, a13, a14) (nI x) (nI y) := by
  have e : (nI K).toNatClampNeg = K := nI_clamp (by omega)
  refine ⟨pk_in K 7 (by omega), ?_⟩
  rw [e]
  exact nm_e ⟨pk_in K 7 (by omega), nm_e (nm_r (nI_1 K) H)⟩
theorem tw_leastPartner {post : Int32 → St2 → Prop} {K x : Nat} {p q : Nat → Nat} {f : Nat → Bool} (hf : tg_XY a1 g h f) (hK : K ≤ 6) (hx : x < 3) (hm : tg_pm a2 a3 K p q)
    (H1 : ∀ b, b < 3 → tg_lp f K p q x = some b → ∀ (b2 b3 b4 b5 : Nat → Int32) (b6 : Nat → Int64) (b7 b8 b9 : Nat → Int32), tg_pm b2 b3 (K + 1) (tg_pu p K x) (tg_pu q K b) → post (nI b) (3, (nI g), (nI h), (nI (K + 1)), bs, hb, a1, b2, b3, b4, b5, b6, b7, b8, b9, a10, a11, a12, a13, a14))
    (H0 : tg_lp f K p q x = none → ∀ (b2 b3 b4 b5 : Nat → Int32) (b6 : Nat → Int64) (b7 b8 b9 : Nat → Int32), tg_pm b2 b3 K p q → post (-1) (3, (nI g), (nI h), (nI K), bs, hb, a1, b2, b3, b4, b5, b6, b7, b8, b9, a10, a11, a12, a13, a14)) : wpX_leastPartner_2 post (3, (nI g), (nI h), (nI K), bs, hb, a1, a2, a3, a4, a5, a6, a7, a8, a9, a10, a11, a12, a13, a14) (nI x) := by
  refine pk_loop (σ := (Nat → Int32) × (Nat → Int32) × (Nat → Int32) × (Nat → Int32) × (Nat → Int64) × (Nat → Int32) × (Nat → Int32) × (Nat → Int32)) (fun n i s => wX_leastPartner_2_2 post (nI x) n (nI i) 3 (nI g) (nI h) (nI K) bs hb a1 s.1 s.2.1 s.2.2.1 s.2.2.2.1 s.2.2.2.2.1 s.2.2.2.2.2.1 s.2.2.2.2.2.2.1 s.2.2.2.2.2.2.2 a10 a11 a12 a13 a14) (fun i s => tg_pm s.1 s.2.1 K p q ∧ ∀ b, b < i → tg_cd f K p q x b = false) 3 0 (a2, a3, a4, a5, a6, a7, a8, a9) (by omega) ⟨hm, fun b hb => absurd hb (by omega)⟩ ?_ ?_
  · intro n s h
    refine pk_le 3 3 (fun _ => H0 ?_ s.1 s.2.1 s.2.2.1 s.2.2.2.1 s.2.2.2.2.1 s.2.2.2.2.2.1 s.2.2.2.2.2.2.1 s.2.2.2.2.2.2.2 h.1) (fun z => absurd z (by omega))
    unfold tg_lp
    rw [h.2 0 (by omega), h.2 1 (by omega), h.2 2 (by omega)]
    rfl
  · intro n i s hi h hw
    obtain ⟨c2, c3, c4, c5, c6, c7, c8, c9⟩ := s
    obtain ⟨h1, h2⟩ := h
    dsimp only at h1
    refine pk_le 3 i (fun z => absurd z (by omega)) (fun _ => tg_pinnedTo (by omega) hi h1 (fun hp => br_f (by decide) (nm_r (nI_1 i) (hw (c2, c3, c4, c5, c6, c7, c8, c9) ⟨h1, fun b hb => ?_⟩))) (fun hp => br_t rfl (tw_pin hK (tw_exists hf (by omega) (tg_push h1 hx hi) (fun he b4 b5 b6 b7 b8 b9 => br_f (by decide) (H1 i hi ?_ _ _ b4 b5 b6 b7 b8 b9 (tg_push h1 hx hi))) (fun he b4 b5 b6 b7 b8 b9 => br_t rfl (nm_r (nI_pred K) (nm_r (nI_1 i) (hw (_, _, b4, b5, b6, b7, b8, b9) ⟨tg_pop (tg_push h1 hx hi), fun b hb => ?_⟩))))))))
    · by_cases eb : b = i
      · subst eb
        unfold tg_cd
        rw [hp]
        rfl
      · exact h2 b (by omega)
    · have hc : tg_cd f K p q x i = true := by
        unfold tg_cd
        rw [hp, he]
        rfl
      unfold tg_lp
      have hi' : i = 0 ∨ i = 1 ∨ i = 2 := by omega
      rcases hi' with z | z | z <;> subst z
      · rw [hc]; rfl
      · rw [h2 0 (by omega), hc]; rfl
      · rw [h2 0 (by omega), h2 1 (by omega), hc]; rfl
    · by_cases eb : b = i
      · subst eb
        unfold tg_cd
        rw [he, Bool.and_false]
      · exact h2 b (by omega)
end
end
section
/-! rows of kit/laws/BITS.to-paste (family wb_): lN n to 2^64 -/
theorem wb_tb (n : Nat) : (lN n).toBitVec = BitVec.ofNat 64 n := rfl
theorem wb_inj {a b : Int64} (h : a.toBitVec = b.toBitVec) : a = b := Int64.toBitVec_inj.mp h
theorem wb_tn {n : Nat} (h : n < 2 ^ 64) : (lN n).toBitVec.toNat = n := by rw [wb_tb, BitVec.toNat_ofNat, Nat.mod_eq_of_lt h]
theorem wb_c : ∀ k, k < 64 → ((nI k).toInt64 &&& 63) = lN k := by decide +kernel
theorem wb_cu : ∀ k, k < 64 → ((nI k).toInt64.toUInt64 &&& Int64.toUInt64 63) = UInt64.ofNat k := by decide +kernel
theorem wb_sm : ∀ k, k < 64 → (BitVec.ofNat 64 k).smod 64 = BitVec.ofNat 64 k := by decide +kernel
theorem wb_shr {n k : Nat} (hn : n < 2 ^ 64) (hk : k < 64) : ((lN n).toUInt64 >>> ((nI k).toInt64.toUInt64 &&& Int64.toUInt64 63)).toInt64 = lN (n / 2 ^ k) := by
  rw [wb_cu k hk]
  apply wb_inj
  apply BitVec.eq_of_toNat_eq
  show ((lN n).toUInt64 >>> UInt64.ofNat k).toNat = (BitVec.ofNat 64 _).toNat
  have h1 : (UInt64.ofNat k).toNat = k := by
    show (BitVec.ofNat 64 k).toNat = k
    rw [BitVec.toNat_ofNat, Nat.mod_eq_of_lt (by omega)]
  have h2 : (lN n).toUInt64.toNat = n := wb_tn hn
  rw [UInt64.toNat_shiftRight, h1, h2, Nat.mod_eq_of_lt hk, Nat.shiftRight_eq_div_pow, BitVec.toNat_ofNat, Nat.mod_eq_of_lt (Nat.lt_of_le_of_lt (Nat.div_le_self _ _) hn)]
theorem wb_shl (n : Nat) {k : Nat} (hk : k < 64) : lN n <<< ((nI k).toInt64 &&& 63) = lN (n * 2 ^ k) := by
  rw [wb_c k hk]
  apply wb_inj
  rw [Int64.toBitVec_shiftLeft, wb_tb, wb_tb, wb_tb, wb_sm k hk]
  apply BitVec.eq_of_toNat_eq
  rw [BitVec.shiftLeft_eq', BitVec.toNat_shiftLeft, BitVec.toNat_ofNat, BitVec.toNat_ofNat, BitVec.toNat_ofNat, Nat.mod_eq_of_lt (show k < 2 ^ 64 by omega), Nat.shiftLeft_eq, Nat.mul_mod, Nat.mod_mod, ← Nat.mul_mod]
theorem wb_or {a b : Nat} (ha : a < 2 ^ 64) (hb : b < 2 ^ 64) : lN a ||| lN b = lN (a ||| b) := by
  apply wb_inj
  rw [Int64.toBitVec_or, wb_tb, wb_tb, wb_tb]
  apply BitVec.eq_of_toNat_eq
  rw [BitVec.toNat_or, BitVec.toNat_ofNat, BitVec.toNat_ofNat, BitVec.toNat_ofNat, Nat.mod_eq_of_lt ha, Nat.mod_eq_of_lt hb, Nat.mod_eq_of_lt (Nat.or_lt_two_pow ha hb)]
end
section
/-! the least form: rows, candidates -/
section
variable {gX gY pn : Int32} {bs : Int64} {hb : Int32} {a1 : Nat → Int32} {a2 : Nat → Int32} {a3 : Nat → Int32} {a4 : Nat → Int32} {a5 : Nat → Int32} {a6 : Nat → Int64} {a7 : Nat → Int32} {a8 : Nat → Int32} {a9 : Nat → Int32} {a10 : Nat → Int32} {a11 : Nat → Int32} {a12 : Nat → Int64} {a13 : Nat → Int64} {a14 : Nat → Int32}
variable {g h : Nat}
/-- X holds the colours of graph g -/
def tg_HX (a1 : Nat → Int32) (g h : Nat) (X : Nat → Nat → Nat) : Prop := g ≤ 1 ∧ h ≤ 1 ∧ (∀ p q, p < 3 → q < 3 → tg_sh a1 g h p q = nI (X p q)) ∧ ∀ p q, X p q ≤ 3
def tg_HP (a10 : Nat → Int32) (pl : Nat → Nat) (d : Nat) : Prop := ∀ k, k < d → a10 k = nI (pl k) ∧ pl k < 3
theorem tg_isPlaced {post : Int32 → Prop} {pl : Nat → Nat} {d v : Nat} (hd : d ≤ 8) (hv : v < 3) (hpl : tg_HP a10 pl d) (H1 : tg_pt pl d v = true → post 1) (H0 : tg_pt pl d v = false → post 0) : wpX_isPlaced post (3, (nI g), (nI h), pn, bs, hb, a1, a2, a3, a4, a5, a6, a7, a8, a9, a10, a11, a12, a13, a14) (nI d) (nI v) := by
  refine pk_loop (σ := Unit) (fun n i _ => wX_isPlaced_2 post (nI d) (nI v) 3 (nI g) (nI h) pn bs hb a1 a2 a3 a4 a5 a6 a7 a8 a9 a10 a11 a12 a13 a14 n (nI i)) (fun i _ => ∀ k, k < i → pl k ≠ v) d 0 () (by omega) (fun k hk => absurd hk (by omega)) ?_ ?_
  · intro n _ hI
    refine pk_le d d (fun _ => H0 ?_) (fun z => absurd z (by omega))
    cases e : tg_pt pl d v
    · rfl
    · obtain ⟨k, hk, ek⟩ := tg_ptI.mp e
      exact absurd ek (hI k hk)
  · intro n i _ hi hI hw
    obtain ⟨m1, m2⟩ := hpl i hi
    refine pk_le d i (fun z => absurd z (by omega)) (fun _ => ⟨pk_in i 8 (by omega), ?_⟩)
    rw [nI_clamp (show i < 2 ^ 31 by omega), m1]
    refine pk_eq (pl i) v (fun e => H1 (tg_ptI.mpr ⟨i, hi, e⟩)) (fun e => nm_r (nI_1 i) (hw () (fun k hk => ?_)))
    by_cases ek : k = i
    · subst ek; exact e
    · exact hI k (by omega)
def tg_rw (X : Nat → Nat → Nat) (pl : Nat → Nat) (v : Nat) : Nat → Nat
  | 0 => 0
  | k + 1 => 4 * tg_rw X pl v k + X v (pl k)
def tg_row (X : Nat → Nat → Nat) (pl : Nat → Nat) (d v : Nat) : Nat := 4 * tg_rw X pl v d + X v v
theorem tg_rw_lt {X : Nat → Nat → Nat} (hX : ∀ p q, X p q ≤ 3) (pl : Nat → Nat) (v k : Nat) : tg_rw X pl v k < 4 ^ k := by
  induction k with
  | zero => exact Nat.one_pos
  | succ k ih =>
    have := hX v (pl k)
    show 4 * tg_rw X pl v k + X v (pl k) < 4 ^ (k + 1)
    rw [Nat.pow_succ]
    omega
theorem tg_row_lt {X : Nat → Nat → Nat} (hX : ∀ p q, X p q ≤ 3) (pl : Nat → Nat) {d : Nat} (hd : d ≤ 3) (v : Nat) : tg_row X pl d v < 256 := by
  have h1 := tg_rw_lt hX pl v d
  have h2 : 4 ^ d ≤ 4 ^ 3 := Nat.pow_le_pow_right (by omega) hd
  have h3 := hX v v
  unfold tg_row
  omega
theorem tg_rowOf {post : Int64 → Prop} {X : Nat → Nat → Nat} {pl : Nat → Nat} {d v : Nat} (hX : tg_HX a1 g h X) (hd : d ≤ 8) (hv : v < 3) (hpl : tg_HP a10 pl d) (H : post (lN (tg_row X pl d v))) : wpX_rowOf post (3, (nI g), (nI h), pn, bs, hb, a1, a2, a3, a4, a5, a6, a7, a8, a9, a10, a11, a12, a13, a14) (nI d) (nI v) := by
  refine pk_loop (σ := Unit) (fun n i _ => wX_rowOf_5 post (nI d) (nI v) 3 (nI g) (nI h) pn bs hb a1 a2 a3 a4 a5 a6 a7 a8 a9 a10 a11 a12 a13 a14 n (lN (tg_rw X pl v i)) (nI i)) (fun _ _ => True) d 0 () (by omega) trivial ?_ ?_
  · intro n _ _
    refine pk_le d d (fun _ => tg_shade hX.1 hX.2.1 (by omega) (by omega) Iff.rfl ?_) (fun z => absurd z (by omega))
    rw [hX.2.2.1 v v hv hv, nI_l (by have := hX.2.2.2 v v; omega), show (4 : Int64) = lN 4 from rfl, lN_mul, lN_add]
    exact H
  · intro n i _ hi _ hw
    obtain ⟨e, l⟩ := hpl i hi
    refine pk_le d i (fun z => absurd z (by omega)) (fun _ => ⟨pk_in i 8 (by omega), ?_⟩)
    rw [nI_clamp (show i < 2 ^ 31 by omega), e]
    refine tg_shade hX.1 hX.2.1 (by omega) (by omega) (by omega) (nm_r ?_ (nm_r (nI_1 i) (hw () trivial)))
    rw [hX.2.2.1 v (pl i) hv l, nI_l (by have := hX.2.2.2 v (pl i); omega), show (4 : Int64) = lN 4 from rfl, lN_mul, lN_add]
    rfl
/-! the least row -/
def tg_mn (o : Option Nat) (r : Nat) : Nat := match o with
  | none => r
  | some m => if m ≤ r then m else r
def tg_lf (X : Nat → Nat → Nat) (pl : Nat → Nat) (d : Nat) : Nat → Option Nat
  | 0 => none
  | v + 1 => if tg_pt pl d v then tg_lf X pl d v else some (tg_mn (tg_lf X pl d v) (tg_row X pl d v))
def tg_ol : Option Nat → Int64
  | none => -1
  | some m => lN m
theorem tg_lf_lt {X : Nat → Nat → Nat} (hX : ∀ p q, X p q ≤ 3) {pl : Nat → Nat} {d : Nat} (hd : d ≤ 3) : ∀ v m, tg_lf X pl d v = some m → m < 256 := by
  intro v
  induction v with
  | zero => intro m e; cases e
  | succ v ih =>
    intro m e
    have hr := tg_row_lt hX pl hd v
    have e' : (if tg_pt pl d v then tg_lf X pl d v else some (tg_mn (tg_lf X pl d v) (tg_row X pl d v))) = some m := e
    by_cases hp : tg_pt pl d v = true
    · rw [if_pos hp] at e'
      exact ih m e'
    · rw [if_neg hp] at e'
      have e2 := Option.some.inj e'
      subst e2
      cases hL : tg_lf X pl d v with
      | none => exact hr
      | some k =>
        have := ih k hL
        show (if k ≤ tg_row X pl d v then k else tg_row X pl d v) < 256
        split <;> omega
theorem tg_enterForm {post : St2 → Prop} {X : Nat → Nat → Nat} {pl : Nat → Nat} {d : Nat} (hX : tg_HX a1 g h X) (hd : d ≤ 3) (hpl : tg_HP a10 pl d)
    (H : post (3, (nI g), (nI h), pn, bs, hb, a1, a2, a3, a4, a5, a6, a7, a8, a9, a10, (upd a11 d (nI 0)), a12, (vp_updL a13 d (tg_ol (tg_lf X pl d 3))), a14)) : wpX_enterForm post (3, (nI g), (nI h), pn, bs, hb, a1, a2, a3, a4, a5, a6, a7, a8, a9, a10, a11, a12, a13, a14) (nI d) := by
  have ed : (nI d).toNatClampNeg = d := nI_clamp (by omega)
  refine ⟨pk_in d 8 (by omega), ?_⟩
  rw [ed]
  refine nm_e (pk_loop (σ := Unit) (fun n i _ => wX_enterForm_14 post (nI d) 3 (nI g) (nI h) pn bs hb a1 a2 a3 a4 a5 a6 a7 a8 a9 a10 (upd a11 d (nI 0)) a12 a13 a14 n (tg_ol (tg_lf X pl d i)) (nI i)) (fun _ _ => True) 3 0 () (by omega) trivial ?_ ?_)
  · intro n _ _
    refine pk_le 3 3 (fun _ => ⟨pk_in d 8 (by omega), ?_⟩) (fun z => absurd z (by omega))
    rw [ed]
    exact nm_e H
  · intro n i _ hi _ hw
    have K := hw () trivial
    have hr := tg_row_lt hX.2.2.2 pl hd i
    refine pk_le 3 i (fun z => absurd z (by omega)) (fun _ => tg_isPlaced (by omega) hi hpl (fun hp => br_f (by decide) (nm_r (nI_1 i) ?_)) (fun hp => br_t rfl (tg_rowOf hX (by omega) hi hpl ?_)))
    · rw [show tg_lf X pl d (i + 1) = tg_lf X pl d i from by show (if tg_pt pl d i then _ else _) = _; rw [hp]; rfl] at K
      exact K
    · rw [show tg_lf X pl d (i + 1) = some (tg_mn (tg_lf X pl d i) (tg_row X pl d i)) from by show (if tg_pt pl d i then _ else _) = _; rw [hp]; rfl] at K
      cases hL : tg_lf X pl d i with
      | none =>
        rw [hL] at K
        exact br_t (by decide) (nm_r (nI_1 i) K)
      | some m =>
        rw [hL] at K
        have hm := tg_lf_lt hX.2.2.2 hd i m hL
        have n0 : ¬ lN m < 0 := fun z => absurd ((pk_lLT (a := m) (b := 0) (by omega) (by omega)).mp z) (by omega)
        refine br_f n0 (br_c (fun e => nm_r (nI_1 i) ?_) (fun e => nm_r (nI_1 i) ?_))
        · have e' := (pk_lLE (by omega) (by omega)).mp e
          rw [show tg_mn (some m) (tg_row X pl d i) = m from if_pos e'] at K
          exact K
        · have e' : ¬ m ≤ tg_row X pl d i := fun z => e ((pk_lLE (by omega) (by omega)).mpr z)
          rw [show tg_mn (some m) (tg_row X pl d i) = tg_row X pl d i from if_neg e'] at K
          exact K
/-! points that stand for each other -/
def tg_icw (X : Nat → Nat → Nat) (u v w : Nat) : Bool := w == u || w == v || X u w == X v w
def tg_ic (X : Nat → Nat → Nat) (u v : Nat) : Bool := X u u == X v v && (tg_icw X u v 0 && tg_icw X u v 1 && tg_icw X u v 2)
theorem tg_icwI {X : Nat → Nat → Nat} {u v w : Nat} : tg_icw X u v w = true ↔ (w ≠ u → w ≠ v → X u w = X v w) := by
  unfold tg_icw
  rw [Bool.or_eq_true, Bool.or_eq_true, beq_iff_eq, beq_iff_eq, beq_iff_eq]
  constructor
  · rintro ((e | e) | e) h1 h2
    · exact absurd e h1
    · exact absurd e h2
    · exact e
  · intro k
    by_cases h1 : w = u
    · exact Or.inl (Or.inl h1)
    · by_cases h2 : w = v
      · exact Or.inl (Or.inr h2)
      · exact Or.inr (k h1 h2)
theorem tg_icI {X : Nat → Nat → Nat} {u v : Nat} : tg_ic X u v = true ↔ X u u = X v v ∧ ∀ w, w < 3 → w ≠ u → w ≠ v → X u w = X v w := by
  unfold tg_ic
  rw [Bool.and_eq_true, Bool.and_eq_true, Bool.and_eq_true, beq_iff_eq, tg_icwI, tg_icwI, tg_icwI]
  constructor
  · rintro ⟨e, ⟨h0, h1⟩, h2⟩
    refine ⟨e, fun w hw => ?_⟩
    have hw' : w = 0 ∨ w = 1 ∨ w = 2 := by omega
    rcases hw' with z | z | z <;> subst z
    · exact h0
    · exact h1
    · exact h2
  · rintro ⟨e, k⟩
    exact ⟨e, ⟨k 0 (by omega), k 1 (by omega)⟩, k 2 (by omega)⟩
theorem tg_bf {b : Bool} (hn : ¬ b = true) : b = false := by
  cases b
  · rfl
  · exact absurd rfl hn
theorem tg_interch {post : Int32 → Prop} {X : Nat → Nat → Nat} {u v : Nat} (hX : tg_HX a1 g h X) (hu : u < 3) (hv : v < 3) (H1 : tg_ic X u v = true → post 1) (H0 : tg_ic X u v = false → post 0) : wpX_interchangeable post (3, (nI g), (nI h), pn, bs, hb, a1, a2, a3, a4, a5, a6, a7, a8, a9, a10, a11, a12, a13, a14) (nI u) (nI v) := by
  unfold wpX_interchangeable
  dsimp only
  refine tg_shade (p := u) (q := u) hX.1 hX.2.1 (by omega) (by omega) Iff.rfl (tg_shade (p := v) (q := v) hX.1 hX.2.1 (by omega) (by omega) Iff.rfl ?_)
  rw [hX.2.2.1 u u hu hu, hX.2.2.1 v v hv hv]
  have b1 := hX.2.2.2 u u
  have b2 := hX.2.2.2 v v
  refine pk_eq (X u u) (X v v) (fun e => ?_) (fun ne => H0 (tg_bf (fun z => ne (tg_icI.mp z).1)))
  refine pk_loop (σ := Unit) (fun n i _ => wX_interchangeable_19 post (nI u) (nI v) 3 (nI g) (nI h) pn bs hb a1 a2 a3 a4 a5 a6 a7 a8 a9 a10 a11 a12 a13 a14 n (nI i)) (fun i _ => ∀ w, w < i → w ≠ u → w ≠ v → X u w = X v w) 3 0 () (by omega) (fun k hk => absurd hk (by omega)) ?_ ?_
  · intro n _ hI
    exact pk_le 3 3 (fun _ => H1 (tg_icI.mpr ⟨e, hI⟩)) (fun z => absurd z (by omega))
  · intro n i _ hi hI hw
    refine pk_le 3 i (fun z => absurd z (by omega)) (fun _ => pk_eq i u (fun e1 => nm_r (nI_1 i) (hw () (fun w k1 k2 k3 => hI w (by omega) k2 k3))) (fun n1 => pk_eq i v (fun e1 => nm_r (nI_1 i) (hw () (fun w k1 k2 k3 => hI w (by omega) k2 k3))) (fun n2 => tg_shade hX.1 hX.2.1 (by omega) (by omega) (by omega) (tg_shade hX.1 hX.2.1 (by omega) (by omega) (by omega) ?_))))
    rw [hX.2.2.1 u i hu hi, hX.2.2.1 v i hv hi]
    have b1 := hX.2.2.2 u i
    have b2 := hX.2.2.2 v i
    refine pk_eq (X u i) (X v i) (fun e1 => nm_r (nI_1 i) (hw () (fun w k1 k2 k3 => ?_))) (fun ne => H0 (tg_bf (fun z => ne ((tg_icI.mp z).2 i hi n1 n2))))
    by_cases ew : w = i
    · subst ew; exact e1
    · exact hI w (by omega) k2 k3
def tg_cvu (X : Nat → Nat → Nat) (pl : Nat → Nat) (d v : Nat) : Nat → Bool
  | 0 => false
  | u + 1 => tg_cvu X pl d v u || (!(tg_pt pl d u) && tg_ic X u v)
theorem tg_cvuI {X : Nat → Nat → Nat} {pl : Nat → Nat} {d v : Nat} : ∀ {k : Nat}, tg_cvu X pl d v k = true ↔ ∃ u, u < k ∧ tg_pt pl d u = false ∧ tg_ic X u v = true := by
  intro k
  induction k with
  | zero => exact ⟨fun z => Bool.noConfusion z, fun ⟨k, hk, _⟩ => absurd hk (by omega)⟩
  | succ k ih =>
    show (tg_cvu X pl d v k || (!(tg_pt pl d k) && tg_ic X k v)) = true ↔ _
    rw [Bool.or_eq_true, Bool.and_eq_true, Bool.not_eq_true', ih]
    constructor
    · rintro (⟨u, hu, e⟩ | e)
      · exact ⟨u, by omega, e⟩
      · exact ⟨k, by omega, e⟩
    · rintro ⟨u, hu, e⟩
      by_cases z : u = k
      · subst z; exact Or.inr e
      · exact Or.inl ⟨u, by omega, e⟩
def tg_cv (X : Nat → Nat → Nat) (pl ob : Nat → Nat) (d v : Nat) : Bool := if d = 0 then decide (ob v < v) else tg_cvu X pl d v v
theorem tg_covered {post : Int32 → Prop} {X : Nat → Nat → Nat} {pl ob : Nat → Nat} {d v : Nat} (hX : tg_HX a1 g h X) (hd : d ≤ 8) (hv : v < 3) (hpl : tg_HP a10 pl d) (hob : tg_HP a14 ob 3) (H1 : tg_cv X pl ob d v = true → post 1) (H0 : tg_cv X pl ob d v = false → post 0) : wpX_covered post (3, (nI g), (nI h), pn, bs, hb, a1, a2, a3, a4, a5, a6, a7, a8, a9, a10, a11, a12, a13, a14) (nI d) (nI v) := by
  unfold tg_cv at H1 H0
  refine pk_eq d 0 (fun e => ⟨pk_in v 7 (by omega), ?_⟩) (fun e => ?_)
  · obtain ⟨o1, o2⟩ := hob v hv
    rw [if_pos e] at H1 H0
    rw [nI_clamp (show v < 2 ^ 31 by omega), o1]
    exact pk_le v (ob v) (fun z => H0 (decide_eq_false (by omega))) (fun z => H1 (decide_eq_true z))
  · rw [if_neg e] at H1 H0
    refine pk_loop (σ := Unit) (fun n i _ => wX_covered_22 post (nI d) (nI v) 3 (nI g) (nI h) pn bs hb a1 a2 a3 a4 a5 a6 a7 a8 a9 a10 a11 a12 a13 a14 n (nI i)) (fun i _ => ∀ u, u < i → tg_pt pl d u = false → ¬ tg_ic X u v = true) v 0 () (by omega) (fun k hk => absurd hk (by omega)) ?_ ?_
    · intro n _ hI
      exact pk_le v v (fun _ => H0 (tg_bf (fun z => by obtain ⟨u, k1, k2, k3⟩ := tg_cvuI.mp z; exact hI u k1 k2 k3))) (fun z => absurd z (by omega))
    · intro n i _ hi hI hw
      refine pk_le v i (fun z => absurd z (by omega)) (fun _ => tg_isPlaced hd (by omega) hpl (fun hp => br_f (by decide) (nm_r (nI_1 i) (hw () (fun u k1 k2 k3 => ?_)))) (fun hp => br_t rfl (tg_interch hX (by omega) hv (fun hc => br_f (by decide) (H1 (tg_cvuI.mpr ⟨i, hi, hp, hc⟩))) (fun hc => br_t rfl (nm_r (nI_1 i) (hw () (fun u k1 k2 k3 => ?_)))))))
      · by_cases eu : u = i
        · subst eu; rw [hp] at k2; cases k2
        · exact hI u (by omega) k2 k3
      · by_cases eu : u = i
        · subst eu; rw [hc] at k3; cases k3
        · exact hI u (by omega) k2 k3
/-! the next candidate -/
def tg_okc (X : Nat → Nat → Nat) (pl ob : Nat → Nat) (m d v : Nat) : Bool := !(tg_pt pl d v) && (tg_row X pl d v == m) && !(tg_cv X pl ob d v)
def tg_ncF (ok : Nat → Bool) : Nat → Option Nat
  | 0 => none
  | j + 1 => if ok (3 - (j + 1)) then some (3 - (j + 1)) else tg_ncF ok j
theorem tg_ncS (ok : Nat → Bool) {i : Nat} (hi : i < 3) : tg_ncF ok (3 - i) = if ok i then some i else tg_ncF ok (3 - (i + 1)) := by
  have hi' : i = 0 ∨ i = 1 ∨ i = 2 := by omega
  rcases hi' with z | z | z <;> subst z <;> rfl
theorem tg_ncL (ok : Nat → Bool) {j v : Nat} (h : tg_ncF ok j = some v) (hj : j ≤ 3) : v < 3 := by
  induction j with
  | zero => cases h
  | succ j ih =>
    have h' : (if ok (3 - (j + 1)) then some (3 - (j + 1)) else tg_ncF ok j) = some v := h
    by_cases k : ok (3 - (j + 1)) = true
    · rw [if_pos k] at h'
      have := Option.some.inj h'
      omega
    · rw [if_neg k] at h'
      exact ih h' (by omega)
theorem tg_nextCand {post : Int32 → Prop} {X : Nat → Nat → Nat} {pl ob : Nat → Nat} {d m i0 : Nat} (hX : tg_HX a1 g h X) (hd : d ≤ 2) (hpl : tg_HP a10 pl d) (hob : tg_HP a14 ob 3) (h11 : a11 d = nI i0) (hi0 : i0 ≤ 3) (h13 : a13 d = lN m) (hm : m < 2 ^ 20)
    (H : post (tg_oi (tg_ncF (tg_okc X pl ob m d) (3 - i0)))) : wpX_nextCandidate post (3, (nI g), (nI h), pn, bs, hb, a1, a2, a3, a4, a5, a6, a7, a8, a9, a10, a11, a12, a13, a14) (nI d) := by
  have ed : (nI d).toNatClampNeg = d := nI_clamp (by omega)
  refine ⟨pk_in d 8 (by omega), ?_⟩
  rw [ed]
  refine nm_r h11 (pk_loop (σ := Unit) (fun n i _ => wX_nextCandidate_7 post (nI d) 3 (nI g) (nI h) pn bs hb a1 a2 a3 a4 a5 a6 a7 a8 a9 a10 a11 a12 a13 a14 n (nI i)) (fun i _ => tg_ncF (tg_okc X pl ob m d) (3 - i0) = tg_ncF (tg_okc X pl ob m d) (3 - i)) 3 i0 () hi0 rfl ?_ ?_)
  · intro n _ hI
    rw [hI] at H
    exact pk_le 3 3 (fun _ => H) (fun z => absurd z (by omega))
  · intro n i _ hi hI hw
    have hr := tg_row_lt hX.2.2.2 pl (show d ≤ 3 by omega) i
    rw [tg_ncS _ hi] at hI
    have go : tg_okc X pl ob m d i = false → wX_nextCandidate_7 post (nI d) 3 (nI g) (nI h) pn bs hb a1 a2 a3 a4 a5 a6 a7 a8 a9 a10 a11 a12 a13 a14 n (nI (i + 1)) := fun z => hw () (by rw [hI, z]; rfl)
    refine pk_le 3 i (fun z => absurd z (by omega)) (fun _ => tg_isPlaced (by omega) hi hpl (fun hp => br_f (by decide) (nm_r (nI_1 i) (go ?_))) (fun hp => br_t rfl (tg_rowOf hX (by omega) hi hpl ⟨pk_in d 8 (by omega), ?_⟩)))
    · unfold tg_okc
      rw [hp]
      rfl
    · rw [ed, h13]
      refine br_c (fun e => ?_) (fun e => nm_r (nI_1 i) (go ?_))
      · have er := (pk_lEQ (by omega) (by omega)).mp e
        refine tg_covered hX (by omega) hi hpl hob (fun hc => br_f (by decide) (nm_r (nI_1 i) (go ?_))) (fun hc => br_t rfl ?_)
        · unfold tg_okc
          rw [hc, Bool.not_true, Bool.and_false]
        · have k : tg_okc X pl ob m d i = true := by
            unfold tg_okc
            rw [hp, hc, er, beq_self_eq_true]
            rfl
          rw [hI, k] at H
          exact H
      · have ne : tg_row X pl d i ≠ m := fun z => e (by rw [z])
        unfold tg_okc
        rw [beq_false_of_ne ne, Bool.and_false, Bool.false_and]
end
end
section
/-! the least form: the search as a pure run -/
section
variable {gX gY pn : Int32} {bs : Int64} {hb : Int32} {a1 : Nat → Int32} {a2 : Nat → Int32} {a3 : Nat → Int32} {a4 : Nat → Int32} {a5 : Nat → Int32} {a6 : Nat → Int64} {a7 : Nat → Int32} {a8 : Nat → Int32} {a9 : Nat → Int32} {a10 : Nat → Int32} {a11 : Nat → Int32} {a12 : Nat → Int64} {a13 : Nat → Int64} {a14 : Nat → Int32}
variable {g h : Nat}
theorem tg_goOn3 {post : Int32 → St2 → Prop} {hv w bst : Nat} (hh2 : hv ≤ 1) (hw : w < 2 ^ 20) (hbs : bst < 2 ^ 20) (h12 : a12 3 = lN w)
    (H1 : (hv = 0 ∨ w < bst) → post (nI 2) (3, (nI g), (nI h), pn, (lN w), (nI 1), a1, a2, a3, a4, a5, a6, a7, a8, a9, a10, a11, a12, a13, a14)) (H0 : ¬ (hv = 0 ∨ w < bst) → post (nI 2) (3, (nI g), (nI h), pn, (lN bst), (nI hv), a1, a2, a3, a4, a5, a6, a7, a8, a9, a10, a11, a12, a13, a14)) : wpX_goOn post (3, (nI g), (nI h), pn, (lN bst), (nI hv), a1, a2, a3, a4, a5, a6, a7, a8, a9, a10, a11, a12, a13, a14) (nI 3) := by
  have e3 : (3 : Int32).toNatClampNeg = 3 := pk_cl 3
  have e4 : nI 3 - 1 = nI 2 := nI_pred 2
  have K : (hv = 0 ∨ w < bst) → wX_goOn_32 post (nI 3) 3 (nI g) (nI h) pn (lN bst) (nI hv) a1 a2 a3 a4 a5 a6 a7 a8 a9 a10 a11 a12 a13 a14 := by
    intro hc
    refine ⟨pk_in 3 8 (by omega), ?_⟩
    rw [e3, e4]
    exact nm_r h12 (H1 hc)
  refine br_t rfl (pk_eq hv 0 (fun e => K (Or.inl e)) (fun ne => ⟨pk_in 3 8 (by omega), ?_⟩))
  rw [e3, e4, h12]
  refine br_c (fun e => H0 ?_) (fun e => K (Or.inr ?_))
  · have e' := (pk_lLE (by omega) (by omega)).mp e
    omega
  · have e' : ¬ bst ≤ w := fun z => e ((pk_lLE (by omega) (by omega)).mpr z)
    omega
theorem tg_goOnD {post : Int32 → St2 → Prop} {X : Nat → Nat → Nat} {pl : Nat → Nat} {d hv w bst : Nat} (hX : tg_HX a1 g h X) (hd : d = 0 ∨ d = 1) (hh2 : hv ≤ 1) (hw : w < 2 ^ 20) (hbs : bst < 2 ^ 20) (h12 : a12 (d + 1) = lN w) (hpl : tg_HP a10 pl (d + 1))
    (Hc : (hv ≠ 0 ∧ bst / 2 ^ (12 - (d + 1) * (d + 2)) < w) → post (nI d) (3, (nI g), (nI h), pn, (lN bst), (nI hv), a1, a2, a3, a4, a5, a6, a7, a8, a9, a10, a11, a12, a13, a14))
    (Hg : ¬ (hv ≠ 0 ∧ bst / 2 ^ (12 - (d + 1) * (d + 2)) < w) → post (nI (d + 1)) (3, (nI g), (nI h), pn, (lN bst), (nI hv), a1, a2, a3, a4, a5, a6, a7, a8, a9, a10, (upd a11 (d + 1) (nI 0)), a12, (vp_updL a13 (d + 1) (tg_ol (tg_lf X pl (d + 1) 3))), a14)) : wpX_goOn post (3, (nI g), (nI h), pn, (lN bst), (nI hv), a1, a2, a3, a4, a5, a6, a7, a8, a9, a10, a11, a12, a13, a14) (nI (d + 1)) := by
  have ed : (nI (d + 1)).toNatClampNeg = d + 1 := nI_clamp (by omega)
  have hle : (d + 1) * (d + 2) ≤ 12 := by
    rcases hd with z | z <;> subst z <;> decide
  have ee : (3 : Int32) * (3 + 1) - nI (d + 1) * (nI (d + 1) + 1) = nI (12 - (d + 1) * (d + 2)) := by
    rw [nI_1, pk_mul, show (3 : Int32) * (3 + 1) = nI 12 from rfl, pk_sub hle]
  have K : ¬ (hv ≠ 0 ∧ bst / 2 ^ (12 - (d + 1) * (d + 2)) < w) → wX_goOn_99 post (nI (d + 1)) 3 (nI g) (nI h) pn (lN bst) (nI hv) a1 a2 a3 a4 a5 a6 a7 a8 a9 a10 a11 a12 a13 a14 := by
    intro hc
    unfold wX_goOn_99
    exact tg_enterForm hX (by omega) hpl (Hg hc)
  refine pk_eq (d + 1) 3 (fun z => absurd z (by omega)) (fun _ => nm_r ee (pk_eq hv 0 (fun e => K (fun z => z.1 e)) (fun ne => ⟨pk_in (d + 1) 8 (by omega), ?_⟩)))
  have hdiv : bst / 2 ^ (12 - (d + 1) * (d + 2)) ≤ bst := Nat.div_le_self _ _
  rw [ed, h12, wb_shr (by omega) (by omega), nI_pred]
  refine br_c (fun e => K (fun z => ?_)) (fun e => Hc ⟨ne, ?_⟩)
  · have e' := (pk_lLE (by omega) (by omega)).mp e
    omega
  · have e' : ¬ w ≤ bst / 2 ^ (12 - (d + 1) * (d + 2)) := fun z => e ((pk_lLE (by omega) (by omega)).mpr z)
    omega
def tg_w (wd lr : Nat → Nat) (d : Nat) : Nat := wd d * 2 ^ (2 * (d + 1)) ||| lr d
def tg_go (X : Nat → Nat → Nat) (R : Nat → (Nat → Nat) → (Nat → Nat) → (Nat → Nat) → (Nat → Nat) → Nat → Nat → Option Nat) (d v : Nat) (pl np wd lr : Nat → Nat) (bst hv : Nat) : Option Nat :=
  if 2 ^ 20 ≤ tg_w wd lr d then none
  else if d + 1 = 3 then
    if hv = 0 ∨ tg_w wd lr d < bst then R (d + 1) (tg_pu pl d v) (tg_pu np d (v + 1)) (tg_pu wd (d + 1) (tg_w wd lr d)) lr (tg_w wd lr d) 1
    else R (d + 1) (tg_pu pl d v) (tg_pu np d (v + 1)) (tg_pu wd (d + 1) (tg_w wd lr d)) lr bst hv
  else if hv ≠ 0 ∧ bst / 2 ^ (12 - (d + 1) * (d + 2)) < tg_w wd lr d then R (d + 1) (tg_pu pl d v) (tg_pu np d (v + 1)) (tg_pu wd (d + 1) (tg_w wd lr d)) lr bst hv
  else match tg_lf X (tg_pu pl d v) (d + 1) 3 with
    | none => none
    | some m => R (d + 2) (tg_pu pl d v) (tg_pu (tg_pu np d (v + 1)) (d + 1) 0) (tg_pu wd (d + 1) (tg_w wd lr d)) (tg_pu lr (d + 1) m) bst hv
def tg_run (X : Nat → Nat → Nat) (ob : Nat → Nat) : Nat → Nat → (Nat → Nat) → (Nat → Nat) → (Nat → Nat) → (Nat → Nat) → Nat → Nat → Option Nat
  | 0 => fun _ _ _ _ _ _ _ => none
  | n + 1 => fun D pl np wd lr bst hv => match D with
    | 0 => some bst
    | d + 1 => match tg_ncF (tg_okc X pl ob (lr d) d) (3 - np d) with
      | none => tg_run X ob n d pl np wd lr bst hv
      | some v => tg_go X (tg_run X ob n) d v pl np wd lr bst hv
/-- the arrays hold the run's values, as far as the search has gone -/
def tg_SI (a10 a11 : Nat → Int32) (a12 a13 : Nat → Int64) (D : Nat) (pl np wd lr : Nat → Nat) : Prop :=
  ∀ k, k < D → (k + 1 < D → a10 k = nI (pl k) ∧ pl k < 3) ∧ (a11 k = nI (np k) ∧ np k ≤ 3) ∧ (a12 k = lN (wd k) ∧ wd k < 2 ^ 20) ∧ (a13 k = lN (lr k) ∧ lr k < 2 ^ 20)
theorem tg_pu1 (p : Nat → Nat) (K x : Nat) : tg_pu p K x K = x := if_pos rfl
theorem tg_pu0 (p : Nat → Nat) {K k : Nat} (x : Nat) (hk : k ≠ K) : tg_pu p K x k = p k := if_neg hk
theorem tg_SI1 {d v w : Nat} {pl np wd lr : Nat → Nat} (hS : tg_SI a10 a11 a12 a13 (d + 1) pl np wd lr) (hv : v < 3) :
    tg_SI (upd a10 d (nI v)) (upd a11 d (nI (v + 1))) (vp_updL a12 (d + 1) (lN w)) a13 (d + 1) (tg_pu pl d v) (tg_pu np d (v + 1)) (tg_pu wd (d + 1) w) lr := by
  intro k hk
  obtain ⟨h1, h2, h3, h4⟩ := hS k hk
  refine ⟨fun z => ?_, ?_, ?_, h4⟩
  · rw [pk_un (by omega), tg_pu0 _ _ (by omega)]
    exact h1 z
  · by_cases e : k = d
    · subst e
      rw [pk_us, tg_pu1]
      exact ⟨rfl, by omega⟩
    · rw [pk_un e, tg_pu0 _ _ e]
      exact h2
  · rw [pk_uLn (by omega), tg_pu0 _ _ (by omega)]
    exact h3
theorem tg_SI2 {d v w m : Nat} {pl np wd lr : Nat → Nat} (hS : tg_SI a10 a11 a12 a13 (d + 1) pl np wd lr) (hv : v < 3) (hw : w < 2 ^ 20) (hm : m < 2 ^ 20) :
    tg_SI (upd a10 d (nI v)) (upd (upd a11 d (nI (v + 1))) (d + 1) (nI 0)) (vp_updL a12 (d + 1) (lN w)) (vp_updL a13 (d + 1) (lN m)) (d + 2) (tg_pu pl d v) (tg_pu (tg_pu np d (v + 1)) (d + 1) 0) (tg_pu wd (d + 1) w) (tg_pu lr (d + 1) m) := by
  intro k hk
  by_cases e : k = d + 1
  · subst e
    rw [pk_us, pk_uLs, pk_uLs, tg_pu1, tg_pu1, tg_pu1]
    exact ⟨fun z => absurd z (by omega), ⟨rfl, by omega⟩, ⟨rfl, hw⟩, ⟨rfl, hm⟩⟩
  · obtain ⟨h1, h2, h3, h4⟩ := hS k (by omega)
    rw [pk_un e, pk_uLn e, pk_uLn e, tg_pu0 _ _ e, tg_pu0 _ _ e, tg_pu0 _ _ e]
    refine ⟨fun z => ?_, ?_, h3, h4⟩
    · by_cases e' : k = d
      · subst e'
        rw [pk_us, tg_pu1]
        exact ⟨rfl, hv⟩
      · rw [pk_un e', tg_pu0 _ _ e']
        exact h1 (by omega)
    · by_cases e' : k = d
      · subst e'
        rw [pk_us, tg_pu1]
        exact ⟨rfl, by omega⟩
      · rw [pk_un e', tg_pu0 _ _ e']
        exact h2
theorem tg_word {wd lr : Nat → Nat} {d : Nat} (hd : d ≤ 2) (hw : wd d < 2 ^ 20) (hl : lr d < 2 ^ 20) : lN (wd d) <<< ((2 * nI (d + 1)).toInt64 &&& 63) ||| lN (lr d) = lN (tg_w wd lr d) := by
  have h1 : 2 ^ (2 * (d + 1)) ≤ 2 ^ 6 := Nat.pow_le_pow_right (by omega) (by omega)
  have h2 : wd d * 2 ^ (2 * (d + 1)) ≤ 2 ^ 20 * 2 ^ 6 := Nat.mul_le_mul (Nat.le_of_lt hw) h1
  rw [show (2 : Int32) * nI (d + 1) = nI (2 * (d + 1)) from pk_mul 2 (d + 1), wb_shl _ (by omega), wb_or (by omega) (by omega)]
  rfl
theorem tg_sim {post : St2 → Prop} {X : Nat → Nat → Nat} {ob : Nat → Nat} (hX : tg_HX a1 g h X) (hob : tg_HP a14 ob 3) {r : Nat}
    (H : ∀ (hb : Int32) (b10 b11 : Nat → Int32) (b12 b13 : Nat → Int64), post (3, (nI g), (nI h), pn, (lN r), hb, a1, a2, a3, a4, a5, a6, a7, a8, a9, b10, b11, b12, b13, a14)) :
    ∀ (n D : Nat) (pl np wd lr : Nat → Nat) (bst hv s : Nat) (a10 a11 : Nat → Int32) (a12 a13 : Nat → Int64), tg_run X ob n D pl np wd lr bst hv = some r → D ≤ 3 → n + s ≤ 1000 → bst < 2 ^ 20 → hv ≤ 1 → tg_SI a10 a11 a12 a13 D pl np wd lr →
      wX_searchForm_16 post n (nI D - 1) (nI s) 3 (nI g) (nI h) pn (lN bst) (nI hv) a1 a2 a3 a4 a5 a6 a7 a8 a9 a10 a11 a12 a13 a14 := by
  intro n
  induction n with
  | zero => intro D pl np wd lr bst hv s a10 a11 a12 a13 hrun; cases hrun
  | succ n ih =>
    intro D pl np wd lr bst hv s a10 a11 a12 a13 hrun hD hs hbs hh2 hS
    cases D with
    | zero =>
      have e : bst = r := Option.some.inj hrun
      subst e
      exact pk_le 60000 s (fun z => absurd z (by omega)) (fun _ => br_t (by decide) (H (nI hv) a10 a11 a12 a13))
    | succ d =>
      have hpl : tg_HP a10 pl d := fun k hk => (hS k (by omega)).1 (by omega)
      obtain ⟨_, ⟨f11, l11⟩, ⟨f12, l12⟩, ⟨f13, l13⟩⟩ := hS d (by omega)
      have ed : (nI d).toNatClampNeg = d := nI_clamp (by omega)
      have ed1 : (nI (d + 1)).toNatClampNeg = d + 1 := nI_clamp (by omega)
      rw [nI_pred]
      refine pk_le 60000 s (fun z => absurd z (by omega)) (fun _ => br_f (nI_pos (by omega)) (tg_nextCand hX (by omega) hpl hob f11 l11 f13 l13 ?_))
      have hrun' : (match tg_ncF (tg_okc X pl ob (lr d) d) (3 - np d) with
        | none => tg_run X ob n d pl np wd lr bst hv
        | some v => tg_go X (tg_run X ob n) d v pl np wd lr bst hv) = some r := hrun
      cases hnc : tg_ncF (tg_okc X pl ob (lr d) d) (3 - np d) with
      | none =>
        rw [hnc] at hrun'
        exact br_f (by decide) (nm_r (tg_m1 d) (nm_r (nI_1 s) (ih d pl np wd lr bst hv (s + 1) a10 a11 a12 a13 hrun' (by omega) (by omega) hbs hh2 (fun k hk => ⟨fun z => (hS k (by omega)).1 (by omega), (hS k (by omega)).2⟩))))
      | some v =>
        rw [hnc] at hrun'
        have hv3 := tg_ncL _ hnc (by omega)
        have hgo : tg_go X (tg_run X ob n) d v pl np wd lr bst hv = some r := hrun'
        rw [show tg_oi (some v) = nI v from rfl]
        refine br_t (nI_pos' (by omega)) ⟨pk_in d 8 (by omega), ?_⟩
        rw [ed, nI_1 v, nI_1 d, ed1, f12, f13, tg_word (by omega) l12 l13]
        refine nm_e ⟨pk_in d 8 (by omega), nm_e ⟨pk_in d 8 (by omega), pk_in d 8 (by omega), pk_in (d + 1) 8 (by omega), nm_e ?_⟩⟩
        have S1 := tg_SI1 (w := tg_w wd lr d) hS hv3
        unfold tg_go at hgo
        by_cases cb : 2 ^ 20 ≤ tg_w wd lr d
        · rw [if_pos cb] at hgo; cases hgo
        rw [if_neg cb] at hgo
        by_cases c3 : d + 1 = 3
        · rw [if_pos c3] at hgo
          have c2 : d = 2 := by omega
          subst c2
          refine tg_goOn3 hh2 (by omega) hbs pk_uLs (fun hc => nm_r (nI_1 s) ?_) (fun hc => nm_r (nI_1 s) ?_)
          · rw [if_pos hc] at hgo
            have k := ih 3 _ _ _ _ _ _ (s + 1) _ _ _ _ hgo (by omega) (by omega) (by omega) (by omega) S1
            rw [nI_pred] at k
            exact k
          · rw [if_neg hc] at hgo
            have k := ih 3 _ _ _ _ _ _ (s + 1) _ _ _ _ hgo (by omega) (by omega) hbs hh2 S1
            rw [nI_pred] at k
            exact k
        · rw [if_neg c3] at hgo
          have hpl' : tg_HP (upd a10 d (nI v)) (tg_pu pl d v) (d + 1) := by
            intro k hk
            by_cases e : k = d
            · subst e
              rw [pk_us, tg_pu1]
              exact ⟨rfl, hv3⟩
            · rw [pk_un e, tg_pu0 _ _ e]
              exact hpl k (by omega)
          refine tg_goOnD hX (by omega) hh2 (by omega) hbs pk_uLs hpl' (fun hc => nm_r (nI_1 s) ?_) (fun hc => nm_r (nI_1 s) ?_)
          · rw [if_pos hc] at hgo
            have k := ih (d + 1) _ _ _ _ _ _ (s + 1) _ _ _ _ hgo (by omega) (by omega) hbs hh2 S1
            rw [nI_pred] at k
            exact k
          · rw [if_neg hc] at hgo
            cases hl : tg_lf X (tg_pu pl d v) (d + 1) 3 with
            | none => rw [hl] at hgo; cases hgo
            | some m =>
              rw [hl] at hgo
              have hm := tg_lf_lt hX.2.2.2 (show d + 1 ≤ 3 by omega) 3 m hl
              have S2 := tg_SI2 (w := tg_w wd lr d) (m := m) hS hv3 (by omega) (by omega)
              have k := ih (d + 2) _ _ _ _ _ _ (s + 1) _ _ _ _ hgo (by omega) (by omega) hbs hh2 S2
              rw [nI_pred] at k
              exact k
def tg_form (X : Nat → Nat → Nat) (ob : Nat → Nat) : Option Nat := match tg_lf X tg_id 0 3 with
  | none => none
  | some m => tg_run X ob 40 1 tg_id (fun _ => 0) (fun _ => 0) (fun _ => m) 0 0
theorem tg_searchForm {post : St2 → Prop} {X : Nat → Nat → Nat} {ob : Nat → Nat} (hX : tg_HX a1 g h X) (hob : tg_HP a14 ob 3) {r : Nat} (hform : tg_form X ob = some r)
    (H : ∀ (hb : Int32) (b10 b11 : Nat → Int32) (b12 b13 : Nat → Int64), post (3, (nI g), (nI h), pn, (lN r), hb, a1, a2, a3, a4, a5, a6, a7, a8, a9, b10, b11, b12, b13, a14)) : wpX_searchForm post (3, (nI g), (nI h), pn, (lN 0), (nI 0), a1, a2, a3, a4, a5, a6, a7, a8, a9, a10, a11, a12, a13, a14) := by
  unfold tg_form at hform
  cases hl : tg_lf X tg_id 0 3 with
  | none => rw [hl] at hform; cases hform
  | some m =>
    rw [hl] at hform
    have hm := tg_lf_lt hX.2.2.2 (show 0 ≤ 3 by omega) 3 m hl
    refine nm_e (tg_enterForm (d := 0) (pl := tg_id) hX (by omega) (fun k hk => absurd hk (by omega)) ⟨40, ?_⟩)
    rw [hl]
    refine tg_sim hX hob H 40 1 tg_id (fun _ => 0) (fun _ => 0) (fun _ => m) 0 0 0 _ _ _ _ hform (by omega) (by omega) (by omega) (by omega) (fun k hk => ?_)
    have ek : k = 0 := by omega
    subst ek
    exact ⟨fun z => absurd z (by omega), ⟨pk_us, show (0 : Nat) ≤ 3 by omega⟩, ⟨pk_uLs, show (0 : Nat) < 2 ^ 20 by omega⟩, ⟨pk_uLs, show m < 2 ^ 20 by omega⟩⟩
end
end
section
/-! leastForm; the cells; the pure law -/
section
variable {gX gY pn : Int32} {bs : Int64} {hb : Int32} {a1 : Nat → Int32} {a2 : Nat → Int32} {a3 : Nat → Int32} {a4 : Nat → Int32} {a5 : Nat → Int32} {a6 : Nat → Int64} {a7 : Nat → Int32} {a8 : Nat → Int32} {a9 : Nat → Int32} {a10 : Nat → Int32} {a11 : Nat → Int32} {a12 : Nat → Int64} {a13 : Nat → Int64} {a14 : Nat → Int32}
def tg_ob (f : Nat → Bool) (j : Nat) : Nat := (tg_lp f 0 tg_id tg_id j).getD 0
theorem tg_leastForm {post : Int64 → St2 → Prop} {f : Nat → Bool} {X : Nat → Nat → Nat} {r : Nat} (hf : tg_XY a1 0 0 f) (hX : tg_HX a1 0 0 X) (hlp : ∀ j, j < 3 → tg_lp f 0 tg_id tg_id j ≠ none) (hform : tg_form X (tg_ob f) = some r)
    (H : ∀ (gX gY pn : Int32) (bs : Int64) (hb : Int32) (b2 b3 b4 b5 : Nat → Int32) (b6 : Nat → Int64) (b7 b8 b9 b10 b11 : Nat → Int32) (b12 b13 : Nat → Int64) (b14 : Nat → Int32), post (lN r) (3, gX, gY, pn, bs, hb, a1, b2, b3, b4, b5, b6, b7, b8, b9, b10, b11, b12, b13, b14)) : wpX_leastForm post (3, gX, gY, pn, bs, hb, a1, a2, a3, a4, a5, a6, a7, a8, a9, a10, a11, a12, a13, a14) 0 := by
  refine br_f (by decide) (br_t (by decide) (tg_aim ?_))
  refine pk_loop (σ := Int32 × (Nat → Int32) × (Nat → Int32) × (Nat → Int32) × (Nat → Int32) × (Nat → Int32) × (Nat → Int64) × (Nat → Int32) × (Nat → Int32) × (Nat → Int32)) (fun n i s => wX_leastForm_21 post n (nI i) 3 (nI 0) (nI 0) s.1 bs hb a1 s.2.2.1 s.2.2.2.1 s.2.2.2.2.1 s.2.2.2.2.2.1 s.2.2.2.2.2.2.1 s.2.2.2.2.2.2.2.1 s.2.2.2.2.2.2.2.2.1 s.2.2.2.2.2.2.2.2.2 a10 a11 a12 a13 s.2.1) (fun i s => tg_HP s.2.1 (tg_ob f) i) 3 0 (0, a14, a2, a3, a4, a5, a6, a7, a8, a9) (by omega) (fun k hk => absurd hk (by omega)) ?_ ?_
  · intro n s hI
    exact pk_le 3 3 (fun _ => tg_searchForm (g := 0) (h := 0) hX hI hform (fun hb b10 b11 b12 b13 => H _ _ _ _ hb _ _ _ _ _ _ _ _ b10 b11 b12 b13 _)) (fun z => absurd z (by omega))
  · intro n i s hi hI hw
    obtain ⟨cp, c14, c2, c3, c4, c5, c6, c7, c8, c9⟩ := s
    dsimp only at hI
    refine pk_le 3 i (fun z => absurd z (by omega)) (fun _ => tw_leastPartner (g := 0) (h := 0) (K := 0) (x := i) (p := tg_id) (q := tg_id) hf (by omega) hi (tg_pm0 _ _) (fun b hb3 hl b2 b3 b4 b5 b6 b7 b8 b9 _ => ⟨pk_in i 7 (by omega), ?_⟩) (fun hn => absurd hn (hlp i hi)))
    rw [nI_clamp (show i < 2 ^ 31 by omega)]
    refine nm_e (nm_r (nI_1 i) (hw (nI (0 + 1), upd c14 i (nI b), b2, b3, b4, b5, b6, b7, b8, b9) (fun k hk => ?_)))
    show upd c14 i (nI b) k = nI (tg_ob f k) ∧ tg_ob f k < 3
    by_cases ek : k = i
    · subst ek
      have e : tg_ob f k = b := by
        unfold tg_ob
        rw [hl]
        rfl
      rw [pk_us, e]
      exact ⟨rfl, hb3⟩
    · rw [pk_un ek]
      exact hI k (by omega)
/-! the colours of a graph of three points -/
def tg_e (a b c p q : Nat) : Nat := match p, q with
  | 0, 1 => a
  | 1, 0 => a
  | 0, 2 => b
  | 2, 0 => b
  | 1, 2 => c
  | 2, 1 => c
  | _, _ => 0
theorem tg_e_le {a b c : Nat} (ha : a ≤ 3) (hb : b ≤ 3) (hc : c ≤ 3) (p q : Nat) : tg_e a b c p q ≤ 3 := by
  unfold tg_e
  split <;> omega
/-- a1 holds at graph g the colours a b c -/
def tg_G (a1 : Nat → Int32) (g a b c : Nat) : Prop := ∀ p, p < 3 → ∀ q, q < 3 → a1 (49 * g + 7 * p + q) = nI (tg_e a b c p q)
def tg_fB (a b c u v w : Nat) (i : Nat) : Bool := match i with
  | 0 => a == u && b == v && c == w
  | 1 => a == v && b == u && c == w
  | 2 => a == u && b == w && c == v
  | 3 => a == w && b == u && c == v
  | 4 => a == v && b == w && c == u
  | _ => a == w && b == v && c == u
theorem tg_GX {g a b c : Nat} {h : Nat} (hg : g ≤ 1) (hh : h ≤ 1) (ha : a ≤ 3) (hb : b ≤ 3) (hc : c ≤ 3) (hG : tg_G a1 g a b c) : tg_HX a1 g h (tg_e a b c) := by
  refine ⟨hg, hh, fun p q hp hq => ?_, tg_e_le ha hb hc⟩
  unfold tg_sh
  rw [if_pos (by omega)]
  exact hG p hp q hq
theorem tg_iso3 {g h a b c u v w x y z : Nat} {π : Nat → Nat} (ha : a ≤ 3) (hb : b ≤ 3) (hc : c ≤ 3) (hu : u ≤ 3) (hv : v ≤ 3) (hw : w ≤ 3) (hG : tg_G a1 g a b c) (hH : tg_G a1 h u v w) (hπ : tg_bij π)
    (ex : tg_e u v w (π 0) (π 1) = x) (ey : tg_e u v w (π 0) (π 2) = y) (ez : tg_e u v w (π 1) (π 2) = z) (ex' : tg_e u v w (π 1) (π 0) = x) (ey' : tg_e u v w (π 2) (π 0) = y) (ez' : tg_e u v w (π 2) (π 1) = z) (e0 : tg_e u v w (π 0) (π 0) = 0) (e1 : tg_e u v w (π 1) (π 1) = 0) (e2 : tg_e u v w (π 2) (π 2) = 0) :
    (a == x && b == y && c == z) = true ↔ tg_iso (tg_sh a1 g h) π := by
  have S : ∀ p q, p < 3 → q < 3 → (tg_sh a1 g h p q = tg_sh a1 g h (7 + π p) (7 + π q) ↔ tg_e a b c p q = tg_e u v w (π p) (π q)) := by
    intro p q hp hq
    have l1 := tg_e_le ha hb hc p q
    have l2 := tg_e_le hu hv hw (π p) (π q)
    unfold tg_sh
    rw [if_pos (by omega), if_neg (by omega), show 7 + π p - 7 = π p by omega, show 7 + π q - 7 = π q by omega, hG p hp q hq, hH (π p) (hπ.1 p hp) (π q) (hπ.1 q hq), nI_eq (by omega) (by omega)]
  rw [Bool.and_eq_true, Bool.and_eq_true, beq_iff_eq, beq_iff_eq, beq_iff_eq]
  constructor
  · rintro ⟨⟨k1, k2⟩, k3⟩ p q hp hq
    rw [S p q hp hq]
    have hp' : p = 0 ∨ p = 1 ∨ p = 2 := by omega
    have hq' : q = 0 ∨ q = 1 ∨ q = 2 := by omega
    rcases hp' with e | e | e <;> subst e <;> rcases hq' with e | e | e <;> subst e
    · exact e0.symm
    · exact k1.trans ex.symm
    · exact k2.trans ey.symm
    · exact k1.trans ex'.symm
    · exact e1.symm
    · exact k3.trans ez.symm
    · exact k2.trans ey'.symm
    · exact k3.trans ez'.symm
    · exact e2.symm
  · intro k
    exact ⟨⟨((S 0 1 (by omega) (by omega)).mp (k 0 1 (by omega) (by omega))).trans ex, ((S 0 2 (by omega) (by omega)).mp (k 0 2 (by omega) (by omega))).trans ey⟩, ((S 1 2 (by omega) (by omega)).mp (k 1 2 (by omega) (by omega))).trans ez⟩
theorem tg_GXY {g h a b c u v w : Nat} (hg : g ≤ 1) (hh : h ≤ 1) (ha : a ≤ 3) (hb : b ≤ 3) (hc : c ≤ 3) (hu : u ≤ 3) (hv : v ≤ 3) (hw : w ≤ 3) (hG : tg_G a1 g a b c) (hH : tg_G a1 h u v w) : tg_XY a1 g h (tg_fB a b c u v w) := by
  refine ⟨hg, hh, fun x hx hU => ?_, fun i hi => ?_⟩
  · unfold tg_sh
    have D : ∀ (a b c p : Nat), p < 3 → nI (tg_e a b c p p) = 0 := by
      intro a b c p hp
      have hp' : p = 0 ∨ p = 1 ∨ p = 2 := by omega
      rcases hp' with e | e | e <;> subst e <;> rfl
    rcases hU with z | ⟨z1, z2⟩
    · rw [if_pos (by omega), hG x z x z]
      exact D a b c x z
    · rw [if_neg (by omega), hH (x - 7) (by omega) (x - 7) (by omega)]
      exact D u v w (x - 7) (by omega)
  · have hi' : i = 0 ∨ i = 1 ∨ i = 2 ∨ i = 3 ∨ i = 4 ∨ i = 5 := by omega
    rcases hi' with e | e | e | e | e | e <;> subst e <;> exact tg_iso3 ha hb hc hu hv hw hG hH (tg_bijq (by omega)) rfl rfl rfl rfl rfl rfl rfl rfl rfl
end
end
section
/-! the plain law: what the answers are, case by case -/
def tg_n (b : Bool) : Nat := if b then 1 else 0
def tg_ct (f : Nat → Bool) : Nat := 0 + tg_n (f 5) + tg_n (f 4) + tg_n (f 3) + tg_n (f 2) + tg_n (f 1) + tg_n (f 0)
def tg_code (f : Nat → Bool) : Int32 := if f 0 then 12 else if f 1 then 21 else if f 2 then 102 else if f 3 then 120 else if f 4 then 201 else if f 5 then 210 else -1
theorem tg_v1 : ∀ b0 b1 b2 b3 b4 b5 : Bool, tg_exB (tg_f6 b0 b1 b2 b3 b4 b5) 0 tg_id tg_id = (b0 || b1 || b2 || b3 || b4 || b5) ∧ tg_exB (tg_f6 b0 b1 b2 b3 b4 b5) 1 (tg_pu tg_id 0 0) (tg_pu tg_id 0 1) = (b2 || b3) ∧ tg_pr (tg_f6 b0 b1 b2 b3 b4 b5) 3 = (1 + tg_n (b2 || b3) + tg_n (b4 || b5)) * (1 + tg_n b1) := by decide +kernel
theorem tg_v2 : ∀ b0 b1 b2 b3 b4 b5 : Bool, (tg_ct (tg_f6 b0 b1 b2 b3 b4 b5) = 0 → tg_la (tg_f6 b0 b1 b2 b3 b4 b5) 0 = -1 ∧ tg_la (tg_f6 b0 b1 b2 b3 b4 b5) 1 = -1 ∧ tg_la (tg_f6 b0 b1 b2 b3 b4 b5) 2 = -1) ∧ (tg_ct (tg_f6 b0 b1 b2 b3 b4 b5) ≠ 0 → tg_la (tg_f6 b0 b1 b2 b3 b4 b5) 0 = tg_code (tg_f6 b0 b1 b2 b3 b4 b5) / 100 ∧ tg_la (tg_f6 b0 b1 b2 b3 b4 b5) 1 = tg_code (tg_f6 b0 b1 b2 b3 b4 b5) / 10 - tg_code (tg_f6 b0 b1 b2 b3 b4 b5) / 10 / 10 * 10 ∧ tg_la (tg_f6 b0 b1 b2 b3 b4 b5) 2 = tg_code (tg_f6 b0 b1 b2 b3 b4 b5) - tg_code (tg_f6 b0 b1 b2 b3 b4 b5) / 10 * 10) := by decide +kernel
theorem tg_can (f : Nat → Bool) : tg_exB f 1 (tg_pu tg_id 0 0) (tg_pu tg_id 0 1) = (f 2 || f 3) := (tg_v1 (f 0) (f 1) (f 2) (f 3) (f 4) (f 5)).2.1
theorem tg_any (f : Nat → Bool) : tg_exB f 0 tg_id tg_id = (f 0 || f 1 || f 2 || f 3 || f 4 || f 5) := (tg_v1 (f 0) (f 1) (f 2) (f 3) (f 4) (f 5)).1
theorem tg_prV (f : Nat → Bool) : tg_pr f 3 = (1 + tg_n (f 2 || f 3) + tg_n (f 4 || f 5)) * (1 + tg_n (f 1)) := (tg_v1 (f 0) (f 1) (f 2) (f 3) (f 4) (f 5)).2.2
theorem tg_la0 (f : Nat → Bool) : (tg_ct f = 0 → tg_la f 0 = -1 ∧ tg_la f 1 = -1 ∧ tg_la f 2 = -1) ∧ (tg_ct f ≠ 0 → tg_la f 0 = tg_code f / 100 ∧ tg_la f 1 = tg_code f / 10 - tg_code f / 10 / 10 * 10 ∧ tg_la f 2 = tg_code f - tg_code f / 10 * 10) := tg_v2 (f 0) (f 1) (f 2) (f 3) (f 4) (f 5)
/-- the layings of one graph upon another are none, or as many as the symmetries -/
theorem tg_d6 : ∀ a, a < 4 → ∀ b, b < 4 → ∀ c, c < 4 → ∀ u, u < 4 → ∀ v, v < 4 → ∀ w, w < 4 → (if tg_fB a b c u v w 0 || tg_fB a b c u v w 1 || tg_fB a b c u v w 2 || tg_fB a b c u v w 3 || tg_fB a b c u v w 4 || tg_fB a b c u v w 5 then (1 + tg_n (tg_fB a b c a b c 2 || tg_fB a b c a b c 3) + tg_n (tg_fB a b c a b c 4 || tg_fB a b c a b c 5)) * (1 + tg_n (tg_fB a b c a b c 1)) else 0) = tg_ct (tg_fB a b c u v w) := by decide +kernel
theorem tg_lay6 {a b c u v w : Nat} (ha : a < 4) (hb : b < 4) (hc : c < 4) (hu : u < 4) (hv : v < 4) (hw : w < 4) : (if tg_exB (tg_fB a b c u v w) 0 tg_id tg_id then tg_pr (tg_fB a b c a b c) 3 else 0) = tg_ct (tg_fB a b c u v w) := by
  rw [tg_any, tg_prV]
  exact tg_d6 a ha b hb c hc u hu v hv w hw
def tg_lo (a b c : Nat) : Nat := if b ≤ a then (if c ≤ b then c else b) else (if c ≤ a then c else a)
def tg_hi (a b c : Nat) : Nat := if a ≤ b then (if b ≤ c then c else b) else (if a ≤ c then c else a)
def tg_mi (a b c : Nat) : Nat := a + b + c - tg_lo a b c - tg_hi a b c
theorem tg_d3 : ∀ a, a < 4 → ∀ b, b < 4 → ∀ c, c < 4 → tg_form (tg_e a b c) (tg_ob (tg_fB a b c a b c)) = some (256 * tg_lo a b c + 16 * tg_mi a b c + 4 * tg_hi a b c) := by decide +kernel
theorem tg_d3b : ∀ a, a < 4 → ∀ b, b < 4 → ∀ c, c < 4 → tg_pr (tg_fB a b c a b c) 3 = (if tg_lo a b c = tg_hi a b c then 6 else if tg_lo a b c = tg_mi a b c then 2 else if tg_mi a b c = tg_hi a b c then 2 else 1) := by decide +kernel
theorem tg_d3c : ∀ a, a < 4 → ∀ b, b < 4 → ∀ c, c < 4 → tg_lp (tg_fB a b c a b c) 0 tg_id tg_id 2 = some (if a = c then 0 else if a = b then 1 else 2) := by decide +kernel
theorem tg_d3d : ∀ a, a < 4 → ∀ b, b < 4 → ∀ c, c < 4 → ∀ j, j < 3 → (tg_lp (tg_fB a b c a b c) 0 tg_id tg_id j).isSome = true := by decide +kernel
theorem tg_d3e : ∀ a, a < 4 → ∀ b, b < 4 → ∀ c, c < 4 → tg_lo a b c + tg_hi a b c ≤ a + b + c ∧ tg_lo a b c ≤ 3 ∧ tg_hi a b c ≤ 3 ∧ tg_mi a b c ≤ 3 := by decide +kernel
theorem tg_lpn {a b c : Nat} (ha : a < 4) (hb : b < 4) (hc : c < 4) : ∀ j, j < 3 → tg_lp (tg_fB a b c a b c) 0 tg_id tg_id j ≠ none := fun j hj e => by
  have k := tg_d3d a ha b hb c hc j hj
  rw [e] at k
  cases k
end
section
/-! the law, from its end to its beginning -/
section
variable {gX gY pn : Int32} {bs : Int64} {hb : Int32} {a1 : Nat → Int32} {a2 : Nat → Int32} {a3 : Nat → Int32} {a4 : Nat → Int32} {a5 : Nat → Int32} {a6 : Nat → Int64} {a7 : Nat → Int32} {a8 : Nat → Int32} {a9 : Nat → Int32} {a10 : Nat → Int32} {a11 : Nat → Int32} {a12 : Nat → Int64} {a13 : Nat → Int64} {a14 : Nat → Int32}
/-- the colours that the law has painted -/
def tg_K (a1 : Nat → Int32) (a b c u v w : Nat) : Prop := (a < 4 ∧ b < 4 ∧ c < 4 ∧ u < 4 ∧ v < 4 ∧ w < 4) ∧ tg_G a1 0 a b c ∧ tg_G a1 1 u v w
theorem tg_Kf {a b c u v w : Nat} (hK : tg_K a1 a b c u v w) : tg_XY a1 0 1 (tg_fB a b c u v w) := by
  obtain ⟨⟨h1, h2, h3, h4, h5, h6⟩, hG, hH⟩ := hK
  exact tg_GXY (by omega) (by omega) (by omega) (by omega) (by omega) (by omega) (by omega) (by omega) hG hH
theorem tg_Kf0 {a b c u v w : Nat} (hK : tg_K a1 a b c u v w) : tg_XY a1 0 0 (tg_fB a b c a b c) := by
  obtain ⟨⟨h1, h2, h3, h4, h5, h6⟩, hG, hH⟩ := hK
  exact tg_GXY (by omega) (by omega) (by omega) (by omega) (by omega) (by omega) (by omega) (by omega) hG hG
theorem tg_l568 {post : Int32 → St0 → Prop} {mc ms kc ks a b c u v w : Nat} (hK : tg_K a1 a b c u v w) (HP : post 1 ()) {z : Int32} (hz : z = nI (tg_pr (tg_fB a b c a b c) 3)) : wL_lawOf_568 post mc ms (nI a) (nI b) (nI c) z kc ks 3 gX gY pn bs hb a1 a2 a3 a4 a5 a6 a7 a8 a9 a10 a11 a12 a13 a14 := by
  have hf := tg_Kf0 hK
  obtain ⟨⟨h1, h2, h3, h4, h5, h6⟩, hG, hH⟩ := hK
  unfold wL_lawOf_568
  refine tg_symmetries hf (fun gX gY pn b2 b3 b4 b5 b6 b7 b8 b9 => br_t hz.symm (tg_mirror hf (fun gX gY pn b2 b3 b4 b5 b6 b7 b8 b9 => ?_)))
  rw [tg_d3c a h1 b h2 c h3]
  refine pk_eq a c (fun e => br_t ?_ HP) (fun ne => pk_eq a b (fun e => br_t ?_ HP) (fun ne' => br_t ?_ HP))
  · rw [if_pos e]; rfl
  · rw [if_neg ne, if_pos e]; rfl
  · rw [if_neg ne, if_neg ne']; rfl
theorem tg_l489 {post : Int32 → St0 → Prop} {mc ms kc ks a b c u v w : Nat} (hK : tg_K a1 a b c u v w) (HP : post 1 ()) {lo hi : Nat} (hlo : lo = tg_lo a b c) (hhi : hi = tg_hi a b c) : wL_lawOf_489 post mc ms (nI a) (nI b) (nI c) (nI lo) (nI hi) kc ks 3 gX gY pn bs hb a1 a2 a3 a4 a5 a6 a7 a8 a9 a10 a11 a12 a13 a14 := by
  have hf := tg_Kf0 hK
  have hK' := hK
  obtain ⟨⟨h1, h2, h3, h4, h5, h6⟩, hG, hH⟩ := hK
  obtain ⟨q1, q2, q3, q4⟩ := tg_d3e a h1 b h2 c h3
  have hs := tg_d3b a h1 b h2 c h3
  have hm : tg_mi a b c = a + b + c - lo - hi := by rw [hlo, hhi]; rfl
  rw [← hlo, ← hhi] at hs q1
  rw [← hlo] at q2
  rw [← hhi] at q3
  have em : nI a + nI b + nI c - nI lo - nI hi = nI (tg_mi a b c) := by
    rw [nI_add, nI_add, pk_sub (by omega), pk_sub (by omega), hm]
  have hform := tg_d3 a h1 b h2 c h3
  rw [← hlo, ← hhi] at hform
  have er : lN (256 * lo + 16 * tg_mi a b c + 4 * hi) = (256 * nI lo + 16 * nI (tg_mi a b c) + 4 * nI hi).toInt64 := by
    rw [show (256 : Int32) = nI 256 from rfl, show (16 : Int32) = nI 16 from rfl, show (4 : Int32) = nI 4 from rfl, pk_mul, pk_mul, pk_mul, nI_add, nI_add, nI_l (by omega)]
  refine nm_r em (tg_leastForm hf (tg_GX (by omega) (by omega) (by omega) (by omega) (by omega) hG) (tg_lpn h1 h2 h3) hform (fun gX gY pn bs hb b2 b3 b4 b5 b6 b7 b8 b9 b10 b11 b12 b13 b14 => br_t er ?_))
  refine pk_eq lo hi (fun e => ?_) (fun n1 => pk_eq lo (tg_mi a b c) (fun e => ?_) (fun n2 => pk_eq (tg_mi a b c) hi (fun e => ?_) (fun n3 => ?_)))
  · rw [if_pos e] at hs
    exact tg_l568 hK' HP (by rw [hs]; rfl)
  · rw [if_neg n1, if_pos e] at hs
    exact tg_l568 hK' HP (by rw [hs]; rfl)
  · rw [if_neg n1, if_neg n2, if_pos e] at hs
    exact tg_l568 hK' HP (by rw [hs]; rfl)
  · rw [if_neg n1, if_neg n2, if_neg n3] at hs
    exact tg_l568 hK' HP (by rw [hs]; rfl)
theorem tg_l449 {post : Int32 → St0 → Prop} {mc ms kc ks a b c u v w : Nat} (hK : tg_K a1 a b c u v w) (HP : post 1 ()) {lo : Nat} (hlo : lo = tg_lo a b c) : wL_lawOf_449 post mc ms (nI a) (nI b) (nI c) (nI lo) kc ks 3 gX gY pn bs hb a1 a2 a3 a4 a5 a6 a7 a8 a9 a10 a11 a12 a13 a14 := by
  have hB := hK.1
  refine pk_le a b (fun z => pk_le b c (fun y => tg_l489 hK HP hlo ?_) (fun y => tg_l489 hK HP hlo ?_)) (fun z => pk_le a c (fun y => tg_l489 hK HP hlo ?_) (fun y => tg_l489 hK HP hlo ?_))
  · rw [tg_hi, if_pos z, if_pos y]
  · rw [tg_hi, if_pos z, if_neg (by omega)]
  · rw [tg_hi, if_neg (by omega), if_pos y]
  · rw [tg_hi, if_neg (by omega), if_neg (by omega)]
theorem tg_l393 {post : Int32 → St0 → Prop} {mc ms kc ks a b c u v w : Nat} (hK : tg_K a1 a b c u v w) (HP : post 1 ()) {z : Int32} (hz : z = if ((tg_fB a b c u v w) 2 || (tg_fB a b c u v w) 3) then 1 else 0) : wL_lawOf_393 post mc ms (nI a) (nI b) (nI c) z kc ks 3 gX gY pn bs hb a1 a2 a3 a4 a5 a6 a7 a8 a9 a10 a11 a12 a13 a14 := by
  have hB := hK.1
  unfold wL_lawOf_393
  refine tg_canLay (tg_Kf hK) (fun gX gY pn b2 b3 b4 b5 b6 b7 b8 b9 => br_t (by rw [tg_can, hz]) ?_)
  refine pk_le b a (fun z => pk_le c b (fun y => tg_l449 hK HP ?_) (fun y => tg_l449 hK HP ?_)) (fun z => pk_le c a (fun y => tg_l449 hK HP ?_) (fun y => tg_l449 hK HP ?_))
  · rw [tg_lo, if_pos z, if_pos y]
  · rw [tg_lo, if_pos z, if_neg (by omega)]
  · rw [tg_lo, if_neg (by omega), if_pos y]
  · rw [tg_lo, if_neg (by omega), if_neg (by omega)]
theorem tg_fitsL {post : Int32 → Prop} {a b c x y z : Nat} (h1 : a < 4) (h2 : b < 4) (h3 : c < 4) (h4 : x < 4) (h5 : y < 4) (h6 : z < 4) (H1 : (a == x && b == y && c == z) = true → post 1) (H0 : (a == x && b == y && c == z) = false → post 0) : wpL_fits post () (nI a) (nI b) (nI c) (nI x) (nI y) (nI z) := by
  refine pk_eq a x (fun e1 => pk_eq b y (fun e2 => pk_eq c z (fun e3 => H1 ?_) (fun n => H0 ?_)) (fun n => H0 ?_)) (fun n => H0 ?_)
  · rw [e1, e2, e3, beq_self_eq_true, beq_self_eq_true, beq_self_eq_true]; rfl
  · rw [beq_false_of_ne n, Bool.and_false]
  · rw [beq_false_of_ne n, Bool.and_false, Bool.false_and]
  · rw [beq_false_of_ne n, Bool.false_and, Bool.false_and]
theorem tg_l347 {post : Int32 → St0 → Prop} {mc ms kc ks a b c u v w : Nat} (hK : tg_K a1 a b c u v w) (HP : post 1 ()) {z0 z1 : Int32} (hz : z1 = z0) : wL_lawOf_347 post mc ms (nI a) (nI b) (nI c) (nI u) (nI v) (nI w) z0 z1 kc ks 3 gX gY pn bs hb a1 a2 a3 a4 a5 a6 a7 a8 a9 a10 a11 a12 a13 a14 := by
  obtain ⟨h1, h2, h3, h4, h5, h6⟩ := hK.1
  refine br_t hz (tg_fitsL h1 h2 h3 h6 h4 h5 (fun e => br_f (by decide) (tg_l393 hK HP ?_)) (fun e => br_t rfl (tg_fitsL h1 h2 h3 h4 h6 h5 (fun e' => br_f (by decide) (tg_l393 hK HP ?_)) (fun e' => br_t rfl (tg_l393 hK HP ?_)))))
  · rw [show (tg_fB a b c u v w) 3 = true from e, Bool.or_true]; rfl
  · rw [show (tg_fB a b c u v w) 2 = true from e', Bool.true_or]; rfl
  · rw [show (tg_fB a b c u v w) 2 = false from e', show (tg_fB a b c u v w) 3 = false from e]; rfl
theorem tg_ct_le0 : ∀ b0 b1 b2 b3 b4 b5 : Bool, tg_ct (tg_f6 b0 b1 b2 b3 b4 b5) ≤ 6 := by decide
theorem tg_ct_le (f : Nat → Bool) : tg_ct f ≤ 6 := tg_ct_le0 (f 0) (f 1) (f 2) (f 3) (f 4) (f 5)
theorem tg_l322 {post : Int32 → St0 → Prop} {mc ms kc ks a b c u v w : Nat} (hK : tg_K a1 a b c u v w) (HP : post 1 ()) {z0 z1 : Int32} (hz : z1 = z0) : wL_lawOf_322 post mc ms (nI a) (nI b) (nI c) (nI u) (nI v) (nI w) (nI (tg_ct (tg_fB a b c u v w))) (tg_code (tg_fB a b c u v w)) z0 z1 kc ks 3 gX gY pn bs hb a1 a2 a3 a4 a5 a6 a7 a8 a9 a10 a11 a12 a13 a14 := by
  have hB := tg_ct_le (tg_fB a b c u v w)
  exact br_t hz (tg_laid (a := 2) (tg_Kf hK) (by omega) (fun gX gY pn b2 b3 b4 b5 b6 b7 b8 b9 => pk_eq (tg_ct (tg_fB a b c u v w)) 0 (fun e => tg_l347 hK HP ((tg_la0 (tg_fB a b c u v w)).1 e).2.2) (fun ne => ⟨by decide, tg_l347 hK HP ((tg_la0 (tg_fB a b c u v w)).2 ne).2.2⟩)))
theorem tg_l294 {post : Int32 → St0 → Prop} {mc ms kc ks a b c u v w : Nat} (hK : tg_K a1 a b c u v w) (HP : post 1 ()) {z0 z1 : Int32} (hz : z1 = z0) : wL_lawOf_294 post mc ms (nI a) (nI b) (nI c) (nI u) (nI v) (nI w) (nI (tg_ct (tg_fB a b c u v w))) (tg_code (tg_fB a b c u v w)) z0 z1 kc ks 3 gX gY pn bs hb a1 a2 a3 a4 a5 a6 a7 a8 a9 a10 a11 a12 a13 a14 := by
  have hB := tg_ct_le (tg_fB a b c u v w)
  exact br_t hz (tg_laid (a := 1) (tg_Kf hK) (by omega) (fun gX gY pn b2 b3 b4 b5 b6 b7 b8 b9 => pk_eq (tg_ct (tg_fB a b c u v w)) 0 (fun e => tg_l322 hK HP ((tg_la0 (tg_fB a b c u v w)).1 e).2.1) (fun ne => ⟨by decide, by decide, tg_l322 hK HP ((tg_la0 (tg_fB a b c u v w)).2 ne).2.1⟩)))
theorem tg_l262 {post : Int32 → St0 → Prop} {mc ms kc ks a b c u v w : Nat} (hK : tg_K a1 a b c u v w) (HP : post 1 ()) : wL_lawOf_262 post mc ms (nI a) (nI b) (nI c) (nI u) (nI v) (nI w) (nI (tg_ct (tg_fB a b c u v w))) (tg_code (tg_fB a b c u v w)) kc ks 3 gX gY pn bs hb a1 a2 a3 a4 a5 a6 a7 a8 a9 a10 a11 a12 a13 a14 := by
  have hB := tg_ct_le (tg_fB a b c u v w)
  have hl := tg_lay6 hK.1.1 hK.1.2.1 hK.1.2.2.1 hK.1.2.2.2.1 hK.1.2.2.2.2.1 hK.1.2.2.2.2.2
  unfold wL_lawOf_262
  exact tg_layings (tg_Kf hK) (tg_Kf0 hK) (fun gX gY pn b2 b3 b4 b5 b6 b7 b8 b9 => br_t (by rw [hl]) (tg_laid (a := 0) (tg_Kf hK) (by omega) (fun gX gY pn b2 b3 b4 b5 b6 b7 b8 b9 => pk_eq (tg_ct (tg_fB a b c u v w)) 0 (fun e => tg_l294 hK HP ((tg_la0 (tg_fB a b c u v w)).1 e).1) (fun ne => ⟨by decide, tg_l294 hK HP ((tg_la0 (tg_fB a b c u v w)).2 ne).1⟩))))
theorem tg_l237 {post : Int32 → St0 → Prop} {mc ms kc ks a b c u v w k : Nat} {l : Int32} (hK : tg_K a1 a b c u v w) (H : wL_lawOf_262 post mc ms (nI a) (nI b) (nI c) (nI u) (nI v) (nI w) (nI (k + tg_n ((tg_fB a b c u v w) 0))) (if (tg_fB a b c u v w) 0 then 12 else l) kc ks 3 gX gY pn bs hb a1 a2 a3 a4 a5 a6 a7 a8 a9 a10 a11 a12 a13 a14) : wL_lawOf_237 post mc ms (nI a) (nI b) (nI c) (nI u) (nI v) (nI w) (nI k) l kc ks 3 gX gY pn bs hb a1 a2 a3 a4 a5 a6 a7 a8 a9 a10 a11 a12 a13 a14 := by
  obtain ⟨h1, h2, h3, h4, h5, h6⟩ := hK.1
  refine tg_fitsL h1 h2 h3 h4 h5 h6 (fun e => br_f (by decide) (nm_r (nI_1 k) ?_)) (fun e => br_t rfl ?_)
  · rw [show (tg_fB a b c u v w) 0 = true from e] at H; exact H
  · rw [show (tg_fB a b c u v w) 0 = false from e] at H; exact H
theorem tg_l212 {post : Int32 → St0 → Prop} {mc ms kc ks a b c u v w k : Nat} {l : Int32} (hK : tg_K a1 a b c u v w) (H : wL_lawOf_237 post mc ms (nI a) (nI b) (nI c) (nI u) (nI v) (nI w) (nI (k + tg_n ((tg_fB a b c u v w) 1))) (if (tg_fB a b c u v w) 1 then 21 else l) kc ks 3 gX gY pn bs hb a1 a2 a3 a4 a5 a6 a7 a8 a9 a10 a11 a12 a13 a14) : wL_lawOf_212 post mc ms (nI a) (nI b) (nI c) (nI u) (nI v) (nI w) (nI k) l kc ks 3 gX gY pn bs hb a1 a2 a3 a4 a5 a6 a7 a8 a9 a10 a11 a12 a13 a14 := by
  obtain ⟨h1, h2, h3, h4, h5, h6⟩ := hK.1
  refine tg_fitsL h1 h2 h3 h5 h4 h6 (fun e => br_f (by decide) (nm_r (nI_1 k) ?_)) (fun e => br_t rfl ?_)
  · rw [show (tg_fB a b c u v w) 1 = true from e] at H; exact H
  · rw [show (tg_fB a b c u v w) 1 = false from e] at H; exact H
theorem tg_l187 {post : Int32 → St0 → Prop} {mc ms kc ks a b c u v w k : Nat} {l : Int32} (hK : tg_K a1 a b c u v w) (H : wL_lawOf_212 post mc ms (nI a) (nI b) (nI c) (nI u) (nI v) (nI w) (nI (k + tg_n ((tg_fB a b c u v w) 2))) (if (tg_fB a b c u v w) 2 then 102 else l) kc ks 3 gX gY pn bs hb a1 a2 a3 a4 a5 a6 a7 a8 a9 a10 a11 a12 a13 a14) : wL_lawOf_187 post mc ms (nI a) (nI b) (nI c) (nI u) (nI v) (nI w) (nI k) l kc ks 3 gX gY pn bs hb a1 a2 a3 a4 a5 a6 a7 a8 a9 a10 a11 a12 a13 a14 := by
  obtain ⟨h1, h2, h3, h4, h5, h6⟩ := hK.1
  refine tg_fitsL h1 h2 h3 h4 h6 h5 (fun e => br_f (by decide) (nm_r (nI_1 k) ?_)) (fun e => br_t rfl ?_)
  · rw [show (tg_fB a b c u v w) 2 = true from e] at H; exact H
  · rw [show (tg_fB a b c u v w) 2 = false from e] at H; exact H
theorem tg_l162 {post : Int32 → St0 → Prop} {mc ms kc ks a b c u v w k : Nat} {l : Int32} (hK : tg_K a1 a b c u v w) (H : wL_lawOf_187 post mc ms (nI a) (nI b) (nI c) (nI u) (nI v) (nI w) (nI (k + tg_n ((tg_fB a b c u v w) 3))) (if (tg_fB a b c u v w) 3 then 120 else l) kc ks 3 gX gY pn bs hb a1 a2 a3 a4 a5 a6 a7 a8 a9 a10 a11 a12 a13 a14) : wL_lawOf_162 post mc ms (nI a) (nI b) (nI c) (nI u) (nI v) (nI w) (nI k) l kc ks 3 gX gY pn bs hb a1 a2 a3 a4 a5 a6 a7 a8 a9 a10 a11 a12 a13 a14 := by
  obtain ⟨h1, h2, h3, h4, h5, h6⟩ := hK.1
  refine tg_fitsL h1 h2 h3 h6 h4 h5 (fun e => br_f (by decide) (nm_r (nI_1 k) ?_)) (fun e => br_t rfl ?_)
  · rw [show (tg_fB a b c u v w) 3 = true from e] at H; exact H
  · rw [show (tg_fB a b c u v w) 3 = false from e] at H; exact H
theorem tg_l136 {post : Int32 → St0 → Prop} {mc ms kc ks a b c u v w k : Nat} {l : Int32} (hK : tg_K a1 a b c u v w) (H : wL_lawOf_162 post mc ms (nI a) (nI b) (nI c) (nI u) (nI v) (nI w) (nI (k + tg_n ((tg_fB a b c u v w) 4))) (if (tg_fB a b c u v w) 4 then 201 else l) kc ks 3 gX gY pn bs hb a1 a2 a3 a4 a5 a6 a7 a8 a9 a10 a11 a12 a13 a14) : wL_lawOf_136 post mc ms (nI a) (nI b) (nI c) (nI u) (nI v) (nI w) (nI k) l kc ks 3 gX gY pn bs hb a1 a2 a3 a4 a5 a6 a7 a8 a9 a10 a11 a12 a13 a14 := by
  obtain ⟨h1, h2, h3, h4, h5, h6⟩ := hK.1
  refine tg_fitsL h1 h2 h3 h5 h6 h4 (fun e => br_f (by decide) (nm_r (nI_1 k) ?_)) (fun e => br_t rfl ?_)
  · rw [show (tg_fB a b c u v w) 4 = true from e] at H; exact H
  · rw [show (tg_fB a b c u v w) 4 = false from e] at H; exact H
theorem tg_l6 {post : Int32 → St0 → Prop} {mc ms kc ks a b c u v w : Nat} (hK : tg_K a1 a b c u v w) (HP : post 1 ()) {k : Nat} {l : Int32} (hk : k = 0 + tg_n ((tg_fB a b c u v w) 5)) (hl : l = if (tg_fB a b c u v w) 5 then 210 else -1) : wL_lawOf_136 post mc ms (nI a) (nI b) (nI c) (nI u) (nI v) (nI w) (nI k) l kc ks 3 gX gY pn bs hb a1 a2 a3 a4 a5 a6 a7 a8 a9 a10 a11 a12 a13 a14 := by
  have M := tg_l262 (mc := mc) (ms := ms) (kc := kc) (ks := ks) (gX := gX) (gY := gY) (pn := pn) (bs := bs) (hb := hb) (a2 := a2) (a3 := a3) (a4 := a4) (a5 := a5) (a6 := a6) (a7 := a7) (a8 := a8) (a9 := a9) (a10 := a10) (a11 := a11) (a12 := a12) (a13 := a13) (a14 := a14) hK HP
  unfold tg_ct tg_code at M
  rw [← hk, ← hl] at M
  exact tg_l136 hK (tg_l162 hK (tg_l187 hK (tg_l212 hK (tg_l237 hK M))))
/-! the beginning: the object made, the six paints -/
theorem tg_paint {post : Int32 → St2 → Prop} {g a b x : Nat} {p : Int32} (hg : g ≤ 1) (ha : a < 3) (hb3 : b < 3) (ex : p &&& 3 = nI x) (H : ∀ r, post r (3, gX, gY, pn, bs, hb, (upd (upd a1 (49 * g + 7 * a + b) (nI x)) (49 * g + 7 * b + a) (nI x)), a2, a3, a4, a5, a6, a7, a8, a9, a10, a11, a12, a13, a14)) : wpX_paint post (3, gX, gY, pn, bs, hb, a1, a2, a3, a4, a5, a6, a7, a8, a9, a10, a11, a12, a13, a14) (nI g) (nI a) (nI b) p := by
  have e1 : (49 * nI g + 7 * nI a + nI b).toNatClampNeg = 49 * g + 7 * a + b := pk_cl _ tg_cx
  have e2 : (49 * nI g + 7 * nI b + nI a).toNatClampNeg = 49 * g + 7 * b + a := pk_cl _ tg_cx
  unfold wpX_paint
  dsimp only
  refine br_f (nI_pos (by omega)) (br_f (nI_nlt (a := 1) (b := g) (by omega) (by omega)) ?_)
  refine tg_isPoint ha (br_f (by decide) (tg_isPoint hb3 (br_f (by decide) ?_)))
  refine br_f (by decide) ⟨pk_in _ 98 (by omega) tg_cx, nm_e ⟨pk_in _ 98 (by omega) tg_cx, ?_⟩⟩
  rw [e1, e2, ex]
  exact nm_e ⟨pk_in _ 98 (by omega) tg_cx, nm_e (H _)⟩
end
end
section
/-! the law's beginning, and what is owed -/
def tg_a1 (a b c u v w : Nat) : Nat → Int32 :=
  upd (upd (upd (upd (upd (upd (upd (upd (upd (upd (upd (upd (fun _ => 0) (49 * 0 + 7 * 0 + 1) (nI a)) (49 * 0 + 7 * 1 + 0) (nI a)) (49 * 0 + 7 * 0 + 2) (nI b)) (49 * 0 + 7 * 2 + 0) (nI b)) (49 * 0 + 7 * 1 + 2) (nI c)) (49 * 0 + 7 * 2 + 1) (nI c)) (49 * 1 + 7 * 1 + 0) (nI u)) (49 * 1 + 7 * 0 + 1) (nI u)) (49 * 1 + 7 * 2 + 0) (nI v)) (49 * 1 + 7 * 0 + 2) (nI v)) (49 * 1 + 7 * 2 + 1) (nI w)) (49 * 1 + 7 * 1 + 2) (nI w)
theorem tg_cells {a b c u v w : Nat} (h : a < 4 ∧ b < 4 ∧ c < 4 ∧ u < 4 ∧ v < 4 ∧ w < 4) : tg_K (tg_a1 a b c u v w) a b c u v w := by
  refine ⟨h, fun p hp q hq => ?_, fun p hp q hq => ?_⟩
  · have hp' : p = 0 ∨ p = 1 ∨ p = 2 := by omega
    have hq' : q = 0 ∨ q = 1 ∨ q = 2 := by omega
    rcases hp' with e | e | e <;> subst e <;> rcases hq' with e | e | e <;> subst e <;> rfl
  · have hp' : p = 0 ∨ p = 1 ∨ p = 2 := by omega
    have hq' : q = 0 ∨ q = 1 ∨ q = 2 := by omega
    rcases hp' with e | e | e <;> subst e <;> rcases hq' with e | e | e <;> subst e <;> rfl
theorem tg_lawOf (p0 p1 p2 p3 p4 p5 : Int32) : wpL_lawOf (fun r _ => r = 1) 224 3584 () p0 p1 p2 p3 p4 p5 := by
  obtain ⟨a, ha, ea⟩ := pk_andE p0 (m := 3) 2 (by decide)
  obtain ⟨b, hb, eb⟩ := pk_andE p1 (m := 3) 2 (by decide)
  obtain ⟨c, hc, ec⟩ := pk_andE p2 (m := 3) 2 (by decide)
  obtain ⟨u, hu, eu⟩ := pk_andE p3 (m := 3) 2 (by decide)
  obtain ⟨v, hv, ev⟩ := pk_andE p4 (m := 3) 2 (by decide)
  obtain ⟨w, hw, ew⟩ := pk_andE p5 (m := 3) 2 (by decide)
  have hK := tg_cells (a := a) (b := b) (c := c) (u := u) (v := v) (w := w) ⟨ha, hb, hc, hu, hv, hw⟩
  refine nm_r ea (nm_r eb (nm_r ec (nm_r eu (nm_r ev (nm_r ew ⟨by omega, by omega, 14, 332, by omega, by omega, ?_⟩)))))
  unfold wpX_init
  dsimp only
  refine br_t (by decide) (br_t (by decide) ?_)
  unfold wX_init_26
  refine ⟨by omega, by omega, by omega, by omega, by omega, by omega, by omega, by omega, by omega, by omega, by omega, by omega, by omega, by omega, by omega, by omega, by omega, by omega, by omega, by omega, by omega, by omega, by omega, by omega, by omega, by omega, by omega, by omega, ?_⟩
  refine tg_paint (g := 0) (a := 0) (b := 1) (x := a) (by omega) (by omega) (by omega) ea (fun _ => ?_)
  refine tg_paint (g := 0) (a := 0) (b := 2) (x := b) (by omega) (by omega) (by omega) eb (fun _ => ?_)
  refine tg_paint (g := 0) (a := 1) (b := 2) (x := c) (by omega) (by omega) (by omega) ec (fun _ => ?_)
  refine tg_paint (g := 1) (a := 1) (b := 0) (x := u) (by omega) (by omega) (by omega) eu (fun _ => ?_)
  refine tg_paint (g := 1) (a := 2) (b := 0) (x := v) (by omega) (by omega) (by omega) ev (fun _ => ?_)
  refine tg_paint (g := 1) (a := 2) (b := 1) (x := w) (by omega) (by omega) (by omega) ew (fun _ => ?_)
  unfold tg_a1 at hK
  refine tg_fitsL ha hb hc hw hv hu (fun e => br_f (by decide) (nm_r (nI_1 0) (tg_l6 hK rfl ?_ ?_))) (fun e => br_t rfl (tg_l6 (k := 0) hK rfl ?_ ?_))
  · rw [show (tg_fB a b c u v w) 5 = true from e]; rfl
  · rw [show (tg_fB a b c u v w) 5 = true from e]; rfl
  · rw [show (tg_fB a b c u v w) 5 = false from e]; rfl
  · rw [show (tg_fB a b c u v w) 5 = false from e]; rfl
theorem tg_cellAt {post : Int32 → Prop} {L : Nat} {xs : Nat → Int32} {i : Nat} (hL : L ≤ 6) (hi : i < 6) (H : ∀ x, post x) : wpL_cellAt post L xs () (nI i) :=
  pk_le L i (fun _ => H 0) (fun z => ⟨pk_in i L z, H _⟩)
theorem i_vc (xs : Nat → Int32) (L : Nat) (hL : L ≤ 6) : wpL_law (fun r => r = 1) L xs := by
  unfold wpL_law
  refine tg_cellAt (i := 0) hL (by omega) (fun r1 => tg_cellAt (i := 1) hL (by omega) (fun r2 => tg_cellAt (i := 2) hL (by omega) (fun r3 => tg_cellAt (i := 3) hL (by omega) (fun r4 => tg_cellAt (i := 4) hL (by omega) (fun r5 => tg_cellAt (i := 5) hL (by omega) (fun r6 => ?_))))))
  exact ⟨224, 3584, by omega, by omega, tg_lawOf r1 r2 r3 r4 r5 r6⟩
end
