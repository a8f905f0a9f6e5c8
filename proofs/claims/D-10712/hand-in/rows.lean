section
/-- a line's length: slow for line 0, fast for line 1 -/
def cp_len (a3 a4 : Nat → Int32) (l : Nat) : Int32 := if l = 0 then a3 0 else a4 0
/-- a line's room, walked forward -/
def cp_room (a5 a6 : Nat → Int32) (l : Nat) : Int32 := if l = 0 then a5 0 - a6 0 else 1000000
theorem cp_half : ∀ l, l < 2 → nI l / 2 = nI 0 := by decide +kernel
theorem cp_halfC {l : Nat} (hl : l < 2) : (nI l / 2).toNatClampNeg = 0 := by
  rw [cp_half l hl]
  exact nI_clamp (by decide)
theorem cp_cell {post : Int32 → Prop} {L : Nat} {xs : Nat → Int32} (hL : L ≤ 6) (i : Nat) (hi : i < 6) (h : ∀ r, post r) : wpL_cellAt post L xs () (nI i) :=
  pk_le L i (fun _ => h _) (fun z => ⟨pk_in i L z, h _⟩)
theorem cp_lenOf {post : Int32 → Prop} {j k w : Int32} {a1 a2 a3 a4 a5 a6 a7 a8 a9 a10 a11 : Nat → Int32} {l : Nat} (hl : l < 2) (h : post (cp_len a3 a4 l)) : wpX_lengthOf post (j, k, w, a1, a2, a3, a4, a5, a6, a7, a8, a9, a10, a11) (nI l) := by
  have e0 := cp_halfC hl
  have e := cp_half l hl
  unfold wpX_lengthOf
  have hc : l = 0 ∨ l = 1 := by omega
  rcases hc with rfl | rfl
  · exact br_t (by decide) ⟨by decide, pk_in 0 7 (by decide) e, by rw [e0]; exact h⟩
  · exact br_f (by decide) ⟨by decide, pk_in 0 7 (by decide) e, by rw [e0]; exact h⟩
theorem cp_roomF {post : Int32 → Prop} {j k w : Int32} {a1 a2 a3 a4 a5 a6 a7 a8 a9 a10 a11 : Nat → Int32} {l : Nat} (hl : l < 2) (h : post (cp_room a5 a6 l)) : wpX_roomOf post (j, k, w, a1, a2, a3, a4, a5, a6, a7, a8, a9, a10, a11) (nI l) 0 := by
  have e0 := cp_halfC hl
  have e := cp_half l hl
  unfold wpX_roomOf
  have hc : l = 0 ∨ l = 1 := by omega
  rcases hc with rfl | rfl
  · exact br_t rfl (br_t (by decide) ⟨by decide, pk_in 0 7 (by decide) e, pk_in 0 14 (by decide), by rw [e0, nI_clamp (by decide)]; exact h⟩)
  · exact br_t rfl (br_f (by decide) h)
theorem cp_roomB {post : Int32 → Prop} {j k w : Int32} {a1 a2 a3 a4 a5 a6 a7 a8 a9 a10 a11 : Nat → Int32} {l : Nat} (hl : l < 2) (h : post (a6 l)) : wpX_roomOf post (j, k, w, a1, a2, a3, a4, a5, a6, a7, a8, a9, a10, a11) (nI l) 1 := by
  unfold wpX_roomOf
  refine br_f (by decide) ⟨pk_in l 14 (by omega), ?_⟩
  rw [nI_clamp (by omega)]
  exact h
theorem cp_put {post : Int32 → St2 → Prop} {j k w : Int32} {a1 a2 a3 a4 a5 a6 a7 a8 a9 a10 a11 : Nat → Int32} {x1 x5 : Int32} {t : Nat} (ht : t < 6) (H : post 1 (j, k, w, a1, a2, a3, a4, a5, a6, upd a7 t x5, upd a8 t 1, upd a9 t x1, a10, a11)) : wX_stretch_123 post x1 0 (nI t) x5 j k w a1 a2 a3 a4 a5 a6 a7 a8 a9 a10 a11 := by
  have et : (nI t).toNatClampNeg = t := nI_clamp (by omega)
  exact ⟨pk_in t 6 ht, nm_r (by rw [et]) ⟨pk_in t 6 ht, nm_r (by rw [et]) (br_t rfl ⟨pk_in t 6 ht, nm_r (by rw [et]) H⟩)⟩⟩
/-- a line walked forward: either nothing changes, or the event it leads to is settled anew -/
theorem cp_fwd {post : Int32 → St2 → Prop} {j k w : Int32} {a1 a2 a3 a4 a5 a6 a7 a8 a9 a10 a11 : Nat → Int32} {l fr t : Nat} (hl : l < 2) (h1 : a1 0 = nI fr) (h2 : a2 0 = nI t) (hf : fr < 6) (ht : t < 6) (ht0 : 0 < t)
    (H0 : ¬ (¬ a8 fr = 0 ∧ ¬ cp_room a5 a6 l = 0 ∧ (a8 t = 0 ∨ a7 t < a7 fr + cp_len a3 a4 l)) → post 0 (j, k, w, a1, a2, a3, a4, a5, a6, a7, a8, a9, a10, a11))
    (H1 : (¬ a8 fr = 0 ∧ ¬ cp_room a5 a6 l = 0 ∧ (a8 t = 0 ∨ a7 t < a7 fr + cp_len a3 a4 l)) → post 1 (j, k, w, a1, a2, a3, a4, a5, a6, upd a7 t (a7 fr + cp_len a3 a4 l), upd a8 t 1, upd a9 t (nI l), a10, a11)) :
    wpX_stretch post (j, k, w, a1, a2, a3, a4, a5, a6, a7, a8, a9, a10, a11) (nI l) 0 := by
  have e0 := cp_halfC hl
  have e := cp_half l hl
  have ef : (nI fr).toNatClampNeg = fr := nI_clamp (by omega)
  have et : (nI t).toNatClampNeg = t := nI_clamp (by omega)
  unfold wpX_stretch
  refine br_t rfl ⟨by decide, pk_in 0 7 (by decide) e, ?_⟩
  rw [e0, h1]
  refine br_t rfl ⟨by decide, pk_in 0 7 (by decide) e, ?_⟩
  rw [e0, h2]
  refine ⟨pk_in fr 6 hf, br_t rfl (cp_lenOf hl ?_)⟩
  rw [ef]
  refine nm_e ⟨pk_in fr 6 hf, ?_⟩
  rw [ef]
  refine br_c (fun g => H0 (fun q => q.1 g)) (fun g => cp_roomF hl (br_c (fun g2 => H0 (fun q => q.2.1 g2)) (fun g2 => br_f (nI_ne0 ht0 (by omega)) ⟨pk_in t 6 ht, ?_⟩)))
  rw [et]
  refine br_c (fun g3 => cp_put ht (H1 ⟨g, g2, Or.inl g3⟩)) (fun g3 => ⟨pk_in t 6 ht, ?_⟩)
  exact br_c (fun g4 => cp_put ht (H1 ⟨g, g2, Or.inr g4⟩)) (fun g4 => H0 (fun q => q.2.2.elim g3 g4))
/-- a line walked back changes nothing here: it leads to event 0, or there is no flow on it -/
theorem cp_back {post : Int32 → St2 → Prop} {j k w : Int32} {a1 a2 a3 a4 a5 a6 a7 a8 a9 a10 a11 : Nat → Int32} {l fr t : Nat} (hl : l < 2) (h1 : a1 0 = nI fr) (h2 : a2 0 = nI t) (hf : fr < 6) (ht : t < 6)
    (h : fr = 0 ∨ a6 l = 0) (H : post 0 (j, k, w, a1, a2, a3, a4, a5, a6, a7, a8, a9, a10, a11)) : wpX_stretch post (j, k, w, a1, a2, a3, a4, a5, a6, a7, a8, a9, a10, a11) (nI l) 1 := by
  have e0 := cp_halfC hl
  have e := cp_half l hl
  unfold wpX_stretch
  refine br_f (by decide) ⟨by decide, pk_in 0 7 (by decide) e, ?_⟩
  rw [e0, h2]
  refine br_f (by decide) ⟨by decide, pk_in 0 7 (by decide) e, ?_⟩
  rw [e0, h1]
  refine ⟨pk_in t 6 ht, br_f (by decide) (cp_lenOf hl ?_)⟩
  refine nm_e ⟨pk_in t 6 ht, ?_⟩
  refine br_c (fun _ => H) (fun _ => cp_roomB hl (br_c (fun _ => H) (fun g2 => ?_)))
  rcases h with h | h
  · refine br_t ?_ H
    rw [h]
    rfl
  · exact absurd h g2
end
section
/-- what a round goes on with -/
abbrev cp_J : Type := Int32 → Int32 → Int32 → Int32 → Int32 → (Nat → Int32) → (Nat → Int32) → (Nat → Int32) → (Nat → Int32) → (Nat → Int32) → (Nat → Int32) → (Nat → Int32) → (Nat → Int32) → (Nat → Int32) → (Nat → Int32) → (Nat → Int32) → Prop
/-- a round over the two lines of one job -/
theorem cp_in1 {post : St2 → Prop} {J : cp_J} {x2 : Int32} {k w : Int32} {a1 a2 a3 a4 a5 a6 a10 a11 : Nat → Int32}
    (A B Z : (Nat → Int32) → (Nat → Int32) → (Nat → Int32) → Prop)
    (hA : ∀ (ψ : Int32 → St2 → Prop) a7 a8 a9, A a7 a8 a9 → (∀ r b7 b8 b9, B b7 b8 b9 → ψ r (1, k, w, a1, a2, a3, a4, a5, a6, b7, b8, b9, a10, a11)) → wpX_stretch ψ (1, k, w, a1, a2, a3, a4, a5, a6, a7, a8, a9, a10, a11) (nI 0) 0)
    (hB : ∀ (ψ : Int32 → St2 → Prop) a7 a8 a9, B a7 a8 a9 → (∀ r b7 b8 b9, Z b7 b8 b9 → ψ r (1, k, w, a1, a2, a3, a4, a5, a6, b7, b8, b9, a10, a11)) → wpX_stretch ψ (1, k, w, a1, a2, a3, a4, a5, a6, a7, a8, a9, a10, a11) (nI 1) 0)
    (hk : ∀ (ψ : Int32 → St2 → Prop) (l : Nat) (a7 a8 a9 : Nat → Int32), l < 2 → ψ 0 (1, k, w, a1, a2, a3, a4, a5, a6, a7, a8, a9, a10, a11) → wpX_stretch ψ (1, k, w, a1, a2, a3, a4, a5, a6, a7, a8, a9, a10, a11) (nI l) 1)
    (HJ : ∀ r b7 b8 b9, Z b7 b8 b9 → J r (x2 + 1) 1 k w a1 a2 a3 a4 a5 a6 b7 b8 b9 a10 a11)
    (a7 a8 a9 : Nat → Int32) (h : A a7 a8 a9) : ∃ n, wX_findLongest_61 post J x2 n 0 0 1 k w a1 a2 a3 a4 a5 a6 a7 a8 a9 a10 a11 := by
  have e2 : (2 : Int32) * 1 = nI 2 := by decide
  have K2 : ∀ x1 b7 b8 b9, Z b7 b8 b9 → wX_findLongest_61 post J x2 1 x1 (nI 2) 1 k w a1 a2 a3 a4 a5 a6 b7 b8 b9 a10 a11 :=
    fun x1 b7 b8 b9 hz => pk_le 2 2 (fun _ => nm_e (HJ _ b7 b8 b9 hz)) (fun z => absurd z (by omega)) e2
  have K1 : ∀ x1 b7 b8 b9, B b7 b8 b9 → wX_findLongest_61 post J x2 2 x1 (nI 1) 1 k w a1 a2 a3 a4 a5 a6 b7 b8 b9 a10 a11 := by
    intro x1 b7 b8 b9 hb
    refine pk_le 2 1 (fun z => absurd z (by omega)) (fun _ => hB _ b7 b8 b9 hb (fun r c7 c8 c9 hc => ?_)) e2
    have key : ∀ z0, wX_findLongest_89 post J (wX_findLongest_61 post J x2 1) x2 (nI 1) z0 1 k w a1 a2 a3 a4 a5 a6 c7 c8 c9 a10 a11 :=
      fun z0 => hk _ 1 c7 c8 c9 (by omega) (br_t rfl (br_c (fun _ => nm_r (nI_1 1) (K2 0 c7 c8 c9 hc)) (fun _ => nm_r (nI_1 1) (K2 1 c7 c8 c9 hc))))
    exact br_c (fun _ => br_c (fun _ => key 0) (fun _ => key 1)) (fun _ => key 1)
  refine ⟨3, pk_le 2 0 (fun z => absurd z (by omega)) (fun _ => hA _ a7 a8 a9 h (fun r b7 b8 b9 hb => ?_)) e2⟩
  have key : ∀ z0, wX_findLongest_89 post J (wX_findLongest_61 post J x2 2) x2 (nI 0) z0 1 k w a1 a2 a3 a4 a5 a6 b7 b8 b9 a10 a11 :=
    fun z0 => hk _ 0 b7 b8 b9 (by omega) (br_t rfl (br_c (fun _ => nm_r (nI_1 0) (K1 0 b7 b8 b9 hb)) (fun _ => nm_r (nI_1 0) (K1 1 b7 b8 b9 hb))))
  exact br_c (fun _ => br_c (fun _ => key 0) (fun _ => key 1)) (fun _ => key 1)
/-- the rounds -/
theorem cp_out {post : St2 → Prop} {j k w : Int32} {a1 a2 a3 a4 a5 a6 a10 a11 : Nat → Int32}
    (A Z : (Nat → Int32) → (Nat → Int32) → (Nat → Int32) → Prop)
    (hZA : ∀ b7 b8 b9, Z b7 b8 b9 → A b7 b8 b9)
    (hin : ∀ (J : cp_J) (x2 : Int32) (a7 a8 a9 : Nat → Int32), A a7 a8 a9 → (∀ r b7 b8 b9, Z b7 b8 b9 → J r (x2 + 1) j k w a1 a2 a3 a4 a5 a6 b7 b8 b9 a10 a11) → ∃ n, wX_findLongest_61 post J x2 n 0 0 j k w a1 a2 a3 a4 a5 a6 a7 a8 a9 a10 a11)
    (H : ∀ b7 b8 b9, Z b7 b8 b9 → post (j, k, w, a1, a2, a3, a4, a5, a6, b7, b8, b9, a10, a11))
    (a7 a8 a9 : Nat → Int32) (h : A a7 a8 a9) : ∃ n, wX_findLongest_47 post n 1 0 j k w a1 a2 a3 a4 a5 a6 a7 a8 a9 a10 a11 := by
  have K : ∀ d i, 6 - i ≤ d → i ≤ 6 → ∀ x1 b7 b8 b9, Z b7 b8 b9 → wX_findLongest_47 post (d + 1) x1 (nI i) j k w a1 a2 a3 a4 a5 a6 b7 b8 b9 a10 a11 := by
    intro d
    induction d with
    | zero => exact fun i h1 h2 x1 b7 b8 b9 hz => pk_le 6 i (fun _ => H b7 b8 b9 hz) (fun z => absurd z (by omega))
    | succ d ih =>
      intro i h1 h2 x1 b7 b8 b9 hz
      refine pk_le 6 i (fun _ => H b7 b8 b9 hz) (fun z => br_c (fun _ => H b7 b8 b9 hz) (fun _ => hin _ _ b7 b8 b9 (hZA _ _ _ hz) (fun r c7 c8 c9 hc => ?_)))
      rw [nI_1]
      exact ih (i + 1) (by omega) (by omega) r c7 c8 c9 hc
  refine ⟨7, pk_le 6 0 (fun z => absurd z (by omega)) (fun _ => br_f (by decide) (hin _ _ a7 a8 a9 h (fun r b7 b8 b9 hb => ?_)))⟩
  rw [show (0 : Int32) + 1 = nI 1 by decide]
  exact K 5 1 (by omega) (by omega) r b7 b8 b9 hb
/-- findLongest: what holds after its first loop -/
theorem cp_fl {post : St2 → Prop} {j k w : Int32} {a1 a2 a3 a4 a5 a6 a7 a8 a9 a10 a11 : Nat → Int32}
    (H : ∀ b7 b8 b9 : Nat → Int32, (∀ e, e < 6 → b8 e = (if e = 0 then 1 else 0) ∧ b7 e = 0) → ∃ n, wX_findLongest_47 post n 1 0 j k w a1 a2 a3 a4 a5 a6 b7 b8 b9 a10 a11) :
    wpX_findLongest post (j, k, w, a1, a2, a3, a4, a5, a6, a7, a8, a9, a10, a11) := by
  have n1 : vp_nar .boolean 1 = 1 := by decide
  have n0 : vp_nar .boolean 0 = 0 := by decide
  unfold wpX_findLongest
  refine pk_loop (σ := (Nat → Int32) × (Nat → Int32) × (Nat → Int32)) (fun n i s => wX_findLongest_2 post j k w n (nI i) a1 a2 a3 a4 a5 a6 s.1 s.2.1 s.2.2 a10 a11) (fun i s => ∀ e, e < i → s.2.1 e = (if e = 0 then 1 else 0) ∧ s.1 e = 0) 6 0 (a7, a8, a9) (by omega) (fun e he => absurd he (by omega)) ?_ ?_
  · intro n s h
    exact pk_le 6 6 (fun _ => H _ _ _ h) (fun z => absurd z (by omega))
  · intro n i s hi h hw
    have ei : (nI i).toNatClampNeg = i := nI_clamp (by omega)
    have F : ∀ x : Int32, x = (if i = 0 then 1 else 0) → ∀ b9, wX_findLongest_2 post j k w n (nI (i + 1)) a1 a2 a3 a4 a5 a6 (upd s.1 i 0) (upd s.2.1 i x) b9 a10 a11 := by
      intro x hx b9
      refine hw (upd s.1 i 0, upd s.2.1 i x, b9) (fun e he => ?_)
      show upd s.2.1 i x e = _ ∧ upd s.1 i 0 e = 0
      by_cases q : e = i
      · subst q
        rw [pk_us, pk_us]
        exact ⟨hx, rfl⟩
      · rw [pk_un q, pk_un q]
        exact h e (by omega)
    refine pk_le 6 i (fun z => absurd z (by omega)) (fun _ => pk_eq i 0 (fun z => ?_) (fun z => ?_))
    · exact ⟨pk_in i 6 hi, nm_r (by rw [ei, n1]) ⟨pk_in i 6 hi, nm_r (by rw [ei]) ⟨pk_in i 6 hi, nm_e (nm_r (nI_1 i) (F 1 (by rw [if_pos z]) _))⟩⟩⟩
    · exact ⟨pk_in i 6 hi, nm_r (by rw [ei, n0]) ⟨pk_in i 6 hi, nm_r (by rw [ei]) ⟨pk_in i 6 hi, nm_e (nm_r (nI_1 i) (F 0 (by rw [if_neg z]) _))⟩⟩⟩
/-- no job: nothing is reached -/
theorem cp_fl0 {post : St2 → Prop} {k w : Int32} {a1 a2 a3 a4 a5 a6 a7 a8 a9 a10 a11 : Nat → Int32}
    (H : ∀ b7 b8 b9 : Nat → Int32, b8 5 = 0 → post (0, k, w, a1, a2, a3, a4, a5, a6, b7, b8, b9, a10, a11)) : wpX_findLongest post (0, k, w, a1, a2, a3, a4, a5, a6, a7, a8, a9, a10, a11) := by
  refine cp_fl (fun b7 b8 b9 hb => cp_out (fun _ c8 _ => c8 5 = 0) (fun _ c8 _ => c8 5 = 0) (fun _ _ _ h => h) (fun J x2 c7 c8 c9 hc HJ => ?_) H b7 b8 b9 (hb 5 (by decide)).1)
  exact ⟨1, pk_le 0 0 (fun _ => nm_e (HJ _ c7 c8 c9 hc)) (fun z => absurd z (by omega)) (by decide)⟩
/-- one job that is no way from 0 to 5: 5 is not reached -/
theorem cp_flN {post : St2 → Prop} {k w : Int32} {a1 a2 a3 a4 a5 a6 a7 a8 a9 a10 a11 : Nat → Int32} {fr t : Nat} (h1 : a1 0 = nI fr) (h2 : a2 0 = nI t) (hf : fr < t) (ht : t < 6) (hn : ¬ (fr = 0 ∧ t = 5))
    (h6 : ∀ e, e < 14 → a6 e = 0)
    (H : ∀ b7 b8 b9 : Nat → Int32, b8 5 = 0 → post (1, k, w, a1, a2, a3, a4, a5, a6, b7, b8, b9, a10, a11)) : wpX_findLongest post (1, k, w, a1, a2, a3, a4, a5, a6, a7, a8, a9, a10, a11) := by
  have S : ∀ l, l < 2 → ∀ (ψ : Int32 → St2 → Prop) (a7 a8 a9 : Nat → Int32), (a8 5 = 0 ∧ (fr ≠ 0 → a8 fr = 0)) → (∀ (r : Int32) (b7 b8 b9 : Nat → Int32), (b8 5 = 0 ∧ (fr ≠ 0 → b8 fr = 0)) → ψ r (1, k, w, a1, a2, a3, a4, a5, a6, b7, b8, b9, a10, a11)) → wpX_stretch ψ (1, k, w, a1, a2, a3, a4, a5, a6, a7, a8, a9, a10, a11) (nI l) 0 := by
    intro l hl ψ c7 c8 c9 hc K
    refine cp_fwd hl h1 h2 (by omega) ht (by omega) (fun _ => K 0 _ _ _ hc) (fun q => K 1 _ _ _ ?_)
    by_cases z : fr = 0
    · refine ⟨?_, fun g => absurd z g⟩
      rw [pk_un (by omega)]
      exact hc.1
    · exact absurd (hc.2 z) q.1
  refine cp_fl (fun b7 b8 b9 hb => cp_out (fun _ c8 _ => c8 5 = 0 ∧ (fr ≠ 0 → c8 fr = 0)) (fun _ c8 _ => c8 5 = 0 ∧ (fr ≠ 0 → c8 fr = 0)) (fun _ _ _ h => h) (fun J x2 c7 c8 c9 hc HJ => ?_) (fun c7 c8 c9 hc => H c7 c8 c9 hc.1) b7 b8 b9 ⟨(hb 5 (by decide)).1, fun g => ?_⟩)
  · exact cp_in1 (fun _ c8 _ => c8 5 = 0 ∧ (fr ≠ 0 → c8 fr = 0)) (fun _ c8 _ => c8 5 = 0 ∧ (fr ≠ 0 → c8 fr = 0)) (fun _ c8 _ => c8 5 = 0 ∧ (fr ≠ 0 → c8 fr = 0)) (S 0 (by decide)) (S 1 (by decide)) (fun ψ l d7 d8 d9 hl hψ => cp_back hl h1 h2 (by omega) ht (Or.inr (h6 l (by omega))) hψ) HJ c7 c8 c9 hc
  · have := (hb fr (by omega)).1
    rw [if_neg g] at this
    exact this
end
section
/-- event 5 settled: length x, last line l -/
def cp_Z (x : Int32) (l : Nat) (c7 c8 c9 : Nat → Int32) : Prop := c8 0 = 1 ∧ c7 0 = 0 ∧ c8 5 = 1 ∧ c7 5 = x ∧ c9 5 = nI l
/-- event 5 not reached yet, or settled -/
def cp_A (x : Int32) (l : Nat) (c7 c8 c9 : Nat → Int32) : Prop := c8 0 = 1 ∧ c7 0 = 0 ∧ (c8 5 = 0 ∨ cp_Z x l c7 c8 c9)
theorem cp_Zput {x : Int32} {l : Nat} {c7 c8 c9 : Nat → Int32} (h8 : c8 0 = 1) (h7 : c7 0 = 0) : cp_Z x l (upd c7 5 (c7 0 + x)) (upd c8 5 1) (upd c9 5 (nI l)) := by
  refine ⟨?_, ?_, pk_us, ?_, pk_us⟩
  · rw [pk_un (by decide)]
    exact h8
  · rw [pk_un (by decide)]
    exact h7
  · rw [pk_us, h7, Int32.zero_add]
theorem cp_10 : ¬ (1 : Int32) = 0 := by decide
/-- the first way: line 0 has room, and is no shorter than line 1 -/
theorem cp_flW1 {post : St2 → Prop} {k w : Int32} {a1 a2 a3 a4 a5 a6 a7 a8 a9 a10 a11 : Nat → Int32} (h1 : a1 0 = nI 0) (h2 : a2 0 = nI 5) (hr : ¬ a5 0 - a6 0 = 0) (hsf : ¬ a3 0 < a4 0)
    (H : ∀ b7 b8 b9 : Nat → Int32, cp_Z (a3 0) 0 b7 b8 b9 → post (1, k, w, a1, a2, a3, a4, a5, a6, b7, b8, b9, a10, a11)) : wpX_findLongest post (1, k, w, a1, a2, a3, a4, a5, a6, a7, a8, a9, a10, a11) := by
  refine cp_fl (fun b7 b8 b9 hb => cp_out (cp_A (a3 0) 0) (cp_Z (a3 0) 0) (fun _ _ _ h => ⟨h.1, h.2.1, Or.inr h⟩) (fun J x2 c7 c8 c9 hc HJ => ?_) H b7 b8 b9 ⟨(hb 0 (by decide)).1, (hb 0 (by decide)).2, Or.inl (hb 5 (by decide)).1⟩)
  refine cp_in1 (cp_A (a3 0) 0) (cp_Z (a3 0) 0) (cp_Z (a3 0) 0) ?_ ?_ (fun ψ l d7 d8 d9 hl hψ => cp_back hl h1 h2 (by decide) (by decide) (Or.inl rfl) hψ) HJ c7 c8 c9 hc
  · intro ψ d7 d8 d9 hd K
    refine cp_fwd (l := 0) (by decide) h1 h2 (by decide) (by decide) (by decide) (fun q => K 0 _ _ _ ?_) (fun _ => K 1 _ _ _ (cp_Zput hd.1 hd.2.1))
    rcases hd.2.2 with g | g
    · exact absurd ⟨by rw [hd.1]; exact cp_10, hr, Or.inl g⟩ q
    · exact g
  · intro ψ d7 d8 d9 hd K
    refine cp_fwd (l := 1) (by decide) h1 h2 (by decide) (by decide) (by decide) (fun q => K 0 _ _ _ hd) (fun q => ?_)
    refine absurd q.2.2 (fun z => ?_)
    rcases z with z | z
    · rw [hd.2.2.1] at z
      exact cp_10 z
    · rw [hd.2.2.2.1, hd.2.1, Int32.zero_add] at z
      exact hsf z
/-- the second way: line 0 has no room left -/
theorem cp_flW2 {post : St2 → Prop} {k w : Int32} {a1 a2 a3 a4 a5 a6 a7 a8 a9 a10 a11 : Nat → Int32} (h1 : a1 0 = nI 0) (h2 : a2 0 = nI 5) (hr : a5 0 - a6 0 = 0)
    (H : ∀ b7 b8 b9 : Nat → Int32, cp_Z (a4 0) 1 b7 b8 b9 → post (1, k, w, a1, a2, a3, a4, a5, a6, b7, b8, b9, a10, a11)) : wpX_findLongest post (1, k, w, a1, a2, a3, a4, a5, a6, a7, a8, a9, a10, a11) := by
  refine cp_fl (fun b7 b8 b9 hb => cp_out (cp_A (a4 0) 1) (cp_Z (a4 0) 1) (fun _ _ _ h => ⟨h.1, h.2.1, Or.inr h⟩) (fun J x2 c7 c8 c9 hc HJ => ?_) H b7 b8 b9 ⟨(hb 0 (by decide)).1, (hb 0 (by decide)).2, Or.inl (hb 5 (by decide)).1⟩)
  refine cp_in1 (cp_A (a4 0) 1) (cp_A (a4 0) 1) (cp_Z (a4 0) 1) ?_ ?_ (fun ψ l d7 d8 d9 hl hψ => cp_back hl h1 h2 (by decide) (by decide) (Or.inl rfl) hψ) HJ c7 c8 c9 hc
  · intro ψ d7 d8 d9 hd K
    exact cp_fwd (l := 0) (by decide) h1 h2 (by decide) (by decide) (by decide) (fun q => K 0 _ _ _ hd) (fun q => absurd hr q.2.1)
  · intro ψ d7 d8 d9 hd K
    refine cp_fwd (l := 1) (by decide) h1 h2 (by decide) (by decide) (by decide) (fun q => K 0 _ _ _ ?_) (fun _ => K 1 _ _ _ (cp_Zput hd.1 hd.2.1))
    rcases hd.2.2 with g | g
    · exact absurd ⟨by rw [hd.1]; exact cp_10, (show ¬ (1000000 : Int32) = 0 by decide), Or.inl g⟩ q
    · exact g
theorem cp_width {post : Int32 → Prop} {j k w : Int32} {a1 a2 a3 a4 a5 a6 a7 a8 a9 a10 a11 : Nat → Int32} {l : Nat} (hl : l < 2) (h1 : a1 0 = nI 0) (h9 : a9 5 = nI l)
    (H0 : 1000000 ≤ cp_room a5 a6 l → post 1000000) (H1 : ¬ 1000000 ≤ cp_room a5 a6 l → post (cp_room a5 a6 l)) : wpX_widthOfWay post (j, k, w, a1, a2, a3, a4, a5, a6, a7, a8, a9, a10, a11) := by
  have e0 := cp_halfC hl
  have e := cp_half l hl
  have e5 : (5 : Int32).toNatClampNeg = 5 := by decide
  have K : ∀ x, post x → wX_widthOfWay_82 post (wX_widthOfWay_7 post j k w a1 a2 a3 a4 a5 a6 a7 a8 a9 a10 a11 1) 0 0 (nI l) x j k w a1 a2 a3 a4 a5 a6 a7 a8 a9 a10 a11 := by
    intro x hx
    refine br_t rfl ⟨by decide, pk_in 0 7 (by decide) e, nm_r (e' := nI 0) (by rw [e0, h1]) (nm_r (nI_1 0) ?_)⟩
    exact pk_le 6 1 (fun z => absurd z (by omega)) (fun _ => br_t rfl hx)
  unfold wpX_widthOfWay
  refine ⟨2, pk_le 6 0 (fun z => absurd z (by omega)) (fun _ => br_f (by decide) ⟨pk_in 5 6 (by decide), ?_⟩)⟩
  rw [e5, h9]
  refine br_t (nI_lt (b := 28) (by omega) (by decide)) (br_t rfl ⟨pk_in 5 6 (by decide), ?_⟩)
  rw [e5, h9]
  exact cp_roomF hl (br_c (fun g => K _ (H0 g)) (fun g => K _ (H1 g)))
theorem cp_send {post : St2 → Prop} {j k w : Int32} {a1 a2 a3 a4 a5 a6 a7 a8 a9 a10 a11 : Nat → Int32} {l : Nat} {am : Int32} (hl : l < 2) (h1 : a1 0 = nI 0) (h9 : a9 5 = nI l)
    (H : post (j, k, w, a1, a2, a3, a4, a5, upd a6 l (a6 l + am), a7, a8, a9, a10, a11)) : wpX_send post (j, k, w, a1, a2, a3, a4, a5, a6, a7, a8, a9, a10, a11) am := by
  have e0 := cp_halfC hl
  have e := cp_half l hl
  have el : (nI l).toNatClampNeg = l := nI_clamp (by omega)
  have e5 : (5 : Int32).toNatClampNeg = 5 := by decide
  unfold wpX_send
  refine ⟨2, pk_le 6 0 (fun z => absurd z (by omega)) (fun _ => br_f (by decide) ⟨pk_in 5 6 (by decide), ?_⟩)⟩
  rw [e5, h9]
  refine br_t (nI_lt (b := 28) (by omega) (by decide)) (br_t rfl ⟨pk_in 5 6 (by decide), ?_⟩)
  rw [e5, h9]
  refine ⟨pk_in l 14 (by omega), br_t rfl ⟨pk_in l 14 (by omega), nm_r (e' := upd a6 l (a6 l + am)) (by rw [el]) (br_t rfl ⟨by decide, pk_in 0 7 (by decide) e, nm_r (e' := nI 0) (by rw [e0, h1]) (nm_r (nI_1 0) ?_)⟩)⟩⟩
  exact pk_le 6 1 (fun z => absurd z (by omega)) (fun _ => br_t rfl H)
end
section
/-- sendAll: what holds after its first loop -/
theorem cp_sa {post : St2 → Prop} {j w : Int32} {a1 a2 a3 a4 a5 a6 a7 a8 a9 a10 a11 : Nat → Int32}
    (H : ∀ b6 : Nat → Int32, (∀ e, e < 14 → b6 e = 0) → ∃ n, wX_sendAll_43 post n 1 0 j 1 0 a1 a2 a3 a4 a5 b6 a7 a8 a9 a10 a11) : wpX_sendAll post (j, 0, w, a1, a2, a3, a4, a5, a6, a7, a8, a9, a10, a11) := by
  unfold wpX_sendAll
  refine br_t rfl ?_
  refine pk_loop (σ := Nat → Int32) (fun n i s => wX_sendAll_20 post j 1 0 n (nI i) a1 a2 a3 a4 a5 s a7 a8 a9 a10 a11) (fun i s => ∀ e, e < i → s e = 0) 14 0 a6 (by omega) (fun e he => absurd he (by omega)) ?_ ?_
  · exact fun n s h => pk_le 14 14 (fun _ => H s h) (fun z => absurd z (by omega))
  · intro n i s hi h hw
    have ei : (nI i).toNatClampNeg = i := nI_clamp (by omega)
    refine pk_le 14 i (fun z => absurd z (by omega)) (fun _ => ⟨pk_in i 14 hi, nm_r (e' := upd s i 0) (by rw [ei]) (nm_r (nI_1 i) (hw (upd s i 0) (fun e he => ?_)))⟩)
    by_cases q : e = i
    · rw [q, pk_us]
    · rw [pk_un q]
      exact h e (by omega)
/-- no way -/
theorem cp_saN {post : St2 → Prop} {j w : Int32} {a1 a2 a3 a4 a5 a6 a7 a8 a9 a10 a11 : Nat → Int32}
    (hfl : ∀ (ψ : St2 → Prop) (b6 : Nat → Int32), (∀ e, e < 14 → b6 e = 0) → (∀ b7 b8 b9 : Nat → Int32, b8 5 = 0 → ψ (j, 1, 0, a1, a2, a3, a4, a5, b6, b7, b8, b9, a10, a11)) → wpX_findLongest ψ (j, 1, 0, a1, a2, a3, a4, a5, b6, a7, a8, a9, a10, a11))
    (H : ∀ b6 b7 b8 b9, post (j, 1, 0, a1, a2, a3, a4, a5, b6, b7, b8, b9, a10, a11)) : wpX_sendAll post (j, 0, w, a1, a2, a3, a4, a5, a6, a7, a8, a9, a10, a11) := by
  refine cp_sa (fun b6 h6 => ⟨2, pk_le 149 0 (fun z => absurd z (by omega)) (fun _ => br_f cp_10 (hfl _ b6 h6 (fun b7 b8 b9 h8 => ?_)))⟩)
  exact nm_r h8 (br_t rfl (nm_r (nI_1 0) (pk_le 149 1 (fun z => absurd z (by omega)) (fun _ => br_t rfl (H b6 b7 b8 b9)))))
theorem cp_vin0 : vp_in 0 150 := pk_in 0 150 (by decide)
theorem cp_vin1 : vp_in 1 150 := pk_in 1 150 (by decide)
/-- the two ways of one job from 0 to 5 -/
theorem cp_saW {post : St2 → Prop} {w : Int32} {a1 a2 a3 a4 a5 a6 a7 a8 a9 a10 a11 : Nat → Int32} {p : Nat} (h1 : a1 0 = nI 0) (h2 : a2 0 = nI 5) (hsf : ¬ a3 0 < a4 0) (h5 : a5 0 = nI p) (hp : 1 ≤ p) (hp2 : p ≤ 20)
    (H : ∀ b6 b7 b8 b9, post (1, 1, nI 2, a1, a2, a3, a4, a5, b6, b7, b8, b9, upd (upd a10 0 (a3 0)) 1 (a4 0), upd (upd a11 0 (nI p)) 1 1000000)) : wpX_sendAll post (1, 0, w, a1, a2, a3, a4, a5, a6, a7, a8, a9, a10, a11) := by
  have z0 : (0 : Int32).toNatClampNeg = 0 := by decide
  have z1 : (1 : Int32).toNatClampNeg = 1 := by decide
  refine cp_sa (fun b6 h6 => ⟨3, pk_le 149 0 (fun z => absurd z (by omega)) (fun _ => br_f cp_10 ?_)⟩)
  have r0 : cp_room a5 b6 0 = nI p := by
    show a5 0 - b6 0 = nI p
    rw [h5, h6 0 (by decide), Int32.sub_zero]
  refine cp_flW1 h1 h2 (by rw [show a5 0 - b6 0 = nI p from r0]; exact nI_ne0 (by omega) (by omega)) hsf (fun b7 b8 b9 hz => ?_)
  refine nm_r hz.2.2.1 (br_f cp_10 ?_)
  have big : ¬ (1000000 : Int32) ≤ nI p := nI_ge (b := 1000000) (by omega) (by decide)
  refine cp_width (l := 0) (by decide) h1 hz.2.2.2.2 (fun g => absurd g (by rw [r0]; exact big)) (fun _ => ?_)
  rw [r0]
  refine ⟨cp_vin0, nm_r (e' := upd a10 0 (a3 0)) (by rw [z0, hz.2.2.2.1]) ⟨cp_vin0, nm_r (e' := upd a11 0 (nI p)) (by rw [z0]) (nm_r (show (0 : Int32) + 1 = 1 by decide) (br_f big ?_))⟩⟩
  refine cp_send (l := 0) (by decide) h1 hz.2.2.2.2 (nm_r (show (0 : Int32) + 1 = nI 1 by decide) ?_)
  refine pk_le 149 1 (fun z => absurd z (by omega)) (fun _ => br_f cp_10 ?_)
  refine cp_flW2 h1 h2 (by rw [pk_us, h5, h6 0 (by decide), Int32.zero_add, Int32.sub_self]) (fun c7 c8 c9 hy => ?_)
  refine nm_r hy.2.2.1 (br_f cp_10 ?_)
  have r1 : ∀ b, cp_room a5 b 1 = 1000000 := fun b => rfl
  refine cp_width (l := 1) (by decide) h1 hy.2.2.2.2 (fun _ => ?_) (fun g => absurd (show (1000000 : Int32) ≤ 1000000 by decide) g)
  refine ⟨cp_vin1, nm_r (e' := upd (upd a10 0 (a3 0)) 1 (a4 0)) (by rw [z1, hy.2.2.2.1]) ⟨cp_vin1, nm_r (e' := upd (upd a11 0 (nI p)) 1 1000000) (by rw [z1]) (nm_r (show (1 : Int32) + 1 = nI 2 by decide) (br_t (by decide) ?_))⟩⟩
  refine cp_send (l := 1) (by decide) h1 hy.2.2.2.2 (nm_r (show nI 1 + 1 = nI 2 by decide) ?_)
  exact pk_le 149 2 (fun z => absurd z (by omega)) (fun _ => br_t rfl (H _ _ _ _))
/-- the picture behind sendAll: jn jobs; no way, or the two ways of one job -/
def cp_K (jn s f p : Nat) (u : St2) : Prop := ∃ (w : Int32) (a1 a2 a3 a4 a5 a6 a7 a8 a9 a10 a11 : Nat → Int32), u = (nI jn, 1, w, a1, a2, a3, a4, a5, a6, a7, a8, a9, a10, a11) ∧ (jn = 1 → a5 0 = nI p) ∧
  ((w = nI 0 ∧ s = 0 ∧ f = 0) ∨ (w = nI 2 ∧ jn = 1 ∧ a10 0 = nI s ∧ a10 1 = nI f ∧ a11 0 = nI p ∧ a11 1 = nI 1000000))
def cp_S (jn s f p : Nat) (u : St2) : Prop := ∀ ψ : St2 → Prop, (∀ u', cp_K jn s f p u' → ψ u') → wpX_sendAll ψ u
theorem cp_KS {jn s f p : Nat} {u : St2} (h : cp_K jn s f p u) : cp_S jn s f p u := by
  intro ψ H
  have hu := H u h
  obtain ⟨w, a1, a2, a3, a4, a5, a6, a7, a8, a9, a10, a11, rfl, h5, hw⟩ := h
  unfold wpX_sendAll
  exact br_f cp_10 hu
theorem cp_S0 {w : Int32} {a1 a2 a3 a4 a5 a6 a7 a8 a9 a10 a11 : Nat → Int32} {p : Nat} : cp_S 0 0 0 p (0, 0, w, a1, a2, a3, a4, a5, a6, a7, a8, a9, a10, a11) :=
  fun ψ H => cp_saN (fun φ b6 h6 K => cp_fl0 K) (fun b6 b7 b8 b9 => H _ ⟨_, _, _, _, _, _, _, _, _, _, _, _, rfl, fun z => absurd z (by omega), Or.inl ⟨rfl, rfl, rfl⟩⟩)
theorem cp_SN {w : Int32} {a1 a2 a3 a4 a5 a6 a7 a8 a9 a10 a11 : Nat → Int32} {p fr t : Nat} (h1 : a1 0 = nI fr) (h2 : a2 0 = nI t) (hf : fr < t) (ht : t < 6) (hn : ¬ (fr = 0 ∧ t = 5)) (h5 : a5 0 = nI p) : cp_S 1 0 0 p (1, 0, w, a1, a2, a3, a4, a5, a6, a7, a8, a9, a10, a11) :=
  fun ψ H => cp_saN (fun φ b6 h6 K => cp_flN h1 h2 hf ht hn h6 K) (fun b6 b7 b8 b9 => H _ ⟨_, _, _, _, _, _, _, _, _, _, _, _, rfl, fun _ => h5, Or.inl ⟨rfl, rfl, rfl⟩⟩)
theorem cp_SW {w : Int32} {a1 a2 a3 a4 a5 a6 a7 a8 a9 a10 a11 : Nat → Int32} {p s f : Nat} (h1 : a1 0 = nI 0) (h2 : a2 0 = nI 5) (h3 : a3 0 = nI s) (h4 : a4 0 = nI f) (h5 : a5 0 = nI p) (hsf : f ≤ s) (hs : s ≤ 9) (hp : 1 ≤ p) (hp2 : p ≤ 20) : cp_S 1 s f p (1, 0, w, a1, a2, a3, a4, a5, a6, a7, a8, a9, a10, a11) :=
  fun ψ H => cp_saW h1 h2 (by rw [h3, h4]; exact nI_nlt hsf (by omega)) h5 hp hp2 (fun b6 b7 b8 b9 => H _ ⟨_, _, _, _, _, _, _, _, _, _, _, _, rfl, fun _ => h5, Or.inr ⟨rfl, rfl, by rw [pk_un (by decide), pk_us, h3], by rw [pk_us, h4], by rw [pk_un (by decide), pk_us], by rw [pk_us]; rfl⟩⟩)
end
section
theorem cp_slow {post : Int32 → St2 → Prop} {jn s f p : Nat} {u : St2} (h : cp_S jn s f p u) (H : ∀ u', cp_K jn s f p u' → post (nI s) u') : wpX_slowest post u := by
  obtain ⟨j, k, w, a1, a2, a3, a4, a5, a6, a7, a8, a9, a10, a11⟩ := u
  unfold wpX_slowest
  refine h _ (fun u' hk => ?_)
  have hu := H u' hk
  obtain ⟨w', b1, b2, b3, b4, b5, b6, b7, b8, b9, b10, b11, rfl, h5, hw⟩ := hk
  rcases hw with ⟨rfl, rfl, rfl⟩ | ⟨rfl, _, h0, h1, _, _⟩
  · exact br_t rfl hu
  · exact br_f (by decide) (by rw [h0]; exact hu)
theorem cp_fast {post : Int32 → St2 → Prop} {jn s f p : Nat} {u : St2} (h : cp_S jn s f p u) (H : ∀ u', cp_K jn s f p u' → post (nI f) u') : wpX_fastest post u := by
  obtain ⟨j, k, w, a1, a2, a3, a4, a5, a6, a7, a8, a9, a10, a11⟩ := u
  unfold wpX_fastest
  refine h _ (fun u' hk => ?_)
  have hu := H u' hk
  obtain ⟨w', b1, b2, b3, b4, b5, b6, b7, b8, b9, b10, b11, rfl, h5, hw⟩ := hk
  rcases hw with ⟨rfl, rfl, rfl⟩ | ⟨rfl, _, h0, h1, _, _⟩
  · exact br_t rfl hu
  · exact br_f (by decide) ⟨pk_in 1 150 (by decide) (by decide), by rw [show (nI 2 - 1).toNatClampNeg = 1 by decide, h1]; exact hu⟩
/-- what costFor answers -/
def cp_c (s f p d : Nat) : Int32 := if d < f then -1 else if s ≤ d then 0 else nI ((s - d) * p)
theorem cp_c1 {s f p d : Nat} (h : d < f) : cp_c s f p d = -1 := by
  unfold cp_c
  rw [if_pos h]
theorem cp_c2 {s f p d : Nat} (h : f ≤ d) (h2 : s ≤ d) : cp_c s f p d = 0 := by
  unfold cp_c
  rw [if_neg (by omega), if_pos h2]
theorem cp_c3 {s f p d : Nat} (h : f ≤ d) (h2 : d < s) : cp_c s f p d = nI ((s - d) * p) := by
  unfold cp_c
  rw [if_neg (by omega), if_neg (by omega)]
theorem cp_costFor {post : Int32 → Prop} {jn s f p d : Nat} {u : St2} (hK : cp_K jn s f p u) (hfs : f ≤ s) (hs : s ≤ 9) (hp : jn = 1 → p ≤ 20) (hd : d < 2 ^ 31) (H : post (cp_c s f p d)) : wpX_costFor post u (nI d) := by
  obtain ⟨w, a1, a2, a3, a4, a5, a6, a7, a8, a9, a10, a11, rfl, h5, hw⟩ := hK
  have z0 : (0 : Int32).toNatClampNeg = 0 := by decide
  have z1 : (nI 1).toNatClampNeg = 1 := by decide
  unfold wpX_costFor
  rcases hw with ⟨rfl, rfl, rfl⟩ | ⟨rfl, hj, h0, h1, g0, g1⟩
  · rw [cp_c2 (by omega) (by omega)] at H
    exact ⟨1, pk_le 0 0 (fun _ => H) (fun z => absurd z (by omega))⟩
  · have hp := hp hj
    have K1 : ∀ x, (d < f → post (-1)) → (f ≤ d → post x) → wX_costFor_4 post (nI d) (nI jn) 1 (nI 2) a1 a2 a3 a4 a5 a6 a7 a8 a9 a10 a11 2 x (nI 1) := by
      intro x H1 H2
      refine pk_le 2 1 (fun z => absurd z (by omega)) (fun _ => ⟨pk_in 1 150 (by decide), ?_⟩)
      rw [z1, h1]
      refine pk_le f d (fun g => nm_r (nI_1 1) (pk_le 2 2 (fun _ => H2 g) (fun z => absurd z (by omega)))) (fun g => ⟨pk_in 1 150 (by decide), ?_⟩)
      rw [g1]
      exact br_f (by decide) (H1 g)
    refine ⟨3, pk_le 2 0 (fun z => absurd z (by omega)) (fun _ => ⟨pk_in 0 150 (by decide), ?_⟩)⟩
    rw [z0, h0]
    refine pk_le s d (fun g => nm_r (nI_1 0) (K1 0 (fun q => ?_) (fun q => ?_))) (fun g => ⟨pk_in 0 150 (by decide), ?_⟩)
    · exact absurd q (by omega)
    · rw [cp_c2 q g] at H
      exact H
    · rw [g0]
      refine br_t (nI_lt (b := 1000000) (by omega) (by decide)) ⟨pk_in 0 150 (by decide), pk_in 0 150 (by decide), nm_r (e' := nI ((s - d) * p)) ?_ (nm_r (nI_1 0) (K1 _ (fun q => ?_) (fun q => ?_)))⟩
      · rw [pk_sub (by omega), pk_mul, Int32.zero_add, Nat.mul_comm]
      · rw [cp_c1 q] at H
        exact H
      · rw [cp_c3 q g] at H
        exact H
theorem cp_cost {post : Int32 → St2 → Prop} {jn s f p : Nat} {u : St2} {x5 : Int32} (hK : cp_K jn s f p u) (hfs : f ≤ s) (hs : s ≤ 9) (hp : jn = 1 → p ≤ 20)
    (H : ∀ r u', (x5 < 0 → r = -1) → (∀ d, x5 = nI d → d < 2 ^ 31 → r = cp_c s f p d) → cp_K jn s f p u' → post r u') : wpX_cost post u x5 := by
  by_cases g : x5 < 0
  · have hu := H (-1) u (fun _ => rfl) (fun d hd hb => absurd g (by rw [hd]; exact nI_pos hb)) hK
    obtain ⟨j, k, w, a1, a2, a3, a4, a5, a6, a7, a8, a9, a10, a11⟩ := u
    unfold wpX_cost
    exact br_f (Int32.not_le.mpr g) hu
  · obtain ⟨d, hd, rfl⟩ := nI_of g
    have hS := cp_KS hK
    obtain ⟨j, k, w, a1, a2, a3, a4, a5, a6, a7, a8, a9, a10, a11⟩ := u
    unfold wpX_cost
    refine br_t (nI_pos' hd) (hS _ (fun u' hk => ?_))
    have hu := H (cp_c s f p d) u' (fun q => absurd q g) (fun e he hb => by rw [(nI_eq hd hb).mp he]) hk
    obtain ⟨j', k', w', b1, b2, b3, b4, b5, b6, b7, b8, b9, b10, b11⟩ := u'
    exact cp_costFor hk hfs hs hp hd hu
theorem cp_cT {s f p jn : Nat} {x4 : Int32} (hfs : f ≤ s) (hs : s ≤ 9) (hs0 : 0 < s → jn = 1) (hp : jn = 1 → x4 = nI p ∧ 1 ≤ p ∧ p ≤ 20) (hx : ¬ x4 < 0) : ¬ cp_c s f p (max (s - 1) f) < 0 ∧ ¬ x4 < cp_c s f p (max (s - 1) f) := by
  by_cases g : s ≤ max (s - 1) f
  · rw [cp_c2 (by omega) g]
    exact ⟨by decide, hx⟩
  · obtain ⟨rfl, h1, h2⟩ := hp (hs0 (by omega))
    rw [cp_c3 (by omega) (by omega), show s - max (s - 1) f = 1 by omega, Nat.one_mul]
    exact ⟨nI_pos (by omega), nI_nlt (Nat.le_refl p) (by omega)⟩
theorem cp_ci {s f p jn i : Nat} {x4 : Int32} (hfs : f ≤ s) (hs : s ≤ 9) (hs0 : 0 < s → jn = 1) (hp : jn = 1 → x4 = nI p ∧ 1 ≤ p ∧ p ≤ 20) (hi : i < max (s - 1) f) : cp_c s f p i < 0 ∨ (¬ cp_c s f p i < 0 ∧ x4 < cp_c s f p i) := by
  by_cases g : i < f
  · left
    rw [cp_c1 g]
    decide
  · right
    obtain ⟨rfl, h1, h2⟩ := hp (hs0 (by omega))
    rw [cp_c3 (by omega) (by omega)]
    have q1 : 2 * p ≤ (s - i) * p := Nat.mul_le_mul_right p (by omega)
    have q2 : (s - i) * p ≤ 9 * 20 := Nat.mul_le_mul (by omega) h2
    exact ⟨nI_pos (by omega), nI_lt (by omega) (by omega)⟩
theorem cp_within {post : Int32 → St2 → Prop} {jn s f p : Nat} {u : St2} {x4 : Int32} (hK : cp_K jn s f p u) (hfs : f ≤ s) (hs : s ≤ 9) (hs0 : 0 < s → jn = 1) (hp : jn = 1 → x4 = nI p ∧ 1 ≤ p ∧ p ≤ 20)
    (H : ∀ r u', (x4 < 0 → r = -1) → (¬ x4 < 0 → r = nI (max (s - 1) f)) → cp_K jn s f p u' → post r u') : wpX_within post u x4 := by
  have hp2 : jn = 1 → p ≤ 20 := fun q => (hp q).2.2
  by_cases g : x4 < 0
  · have hu := H (-1) u (fun _ => rfl) (fun q => absurd g q) hK
    obtain ⟨j, k, w, a1, a2, a3, a4, a5, a6, a7, a8, a9, a10, a11⟩ := u
    unfold wpX_within
    exact br_f (Int32.not_le.mpr g) hu
  · have hS := cp_KS hK
    obtain ⟨j, k, w, a1, a2, a3, a4, a5, a6, a7, a8, a9, a10, a11⟩ := u
    unfold wpX_within
    refine br_t (Int32.not_lt.mp g) (hS _ (fun u' hk => ?_))
    have hu := H (nI (max (s - 1) f)) u' (fun q => absurd q g) (fun _ => rfl) hk
    have hm : max (s - 1) f ≤ 9 := by omega
    have cT := cp_cT hfs hs hs0 hp g
    have ci := fun i hi => cp_ci (i := i) hfs hs hs0 hp hi
    obtain ⟨j', k', w', b1, b2, b3, b4, b5, b6, b7, b8, b9, b10, b11⟩ := u'
    refine pk_loop (σ := Unit) (fun n i _ => wX_within_12 post x4 j' k' w' b1 b2 b3 b4 b5 b6 b7 b8 b9 b10 b11 n (nI i)) (fun _ _ => True) (max (s - 1) f) 0 () (by omega) trivial (fun n _ _ => ?_) (fun n i _ hi _ hw => ?_)
    · exact pk_lt 45 (max (s - 1) f) (fun z => absurd z (by omega)) (fun _ => cp_costFor hk hfs hs hp2 (by omega) (br_f cT.1 (br_f cT.2 hu)))
    · refine pk_lt 45 i (fun z => absurd z (by omega)) (fun _ => cp_costFor hk hfs hs hp2 (by omega) ?_)
      rcases ci i hi with q | q
      · exact br_t q (nm_r (nI_1 i) (hw () trivial))
      · exact br_f q.1 (br_t q.2 (nm_r (nI_1 i) (hw () trivial)))
theorem cp_price {post : Int32 → St2 → Prop} {jn s f p : Nat} {u : St2} {x5 : Int32} (hK : cp_K jn s f p u) (hj : jn ≤ 1)
    (H0 : jn = 1 → x5 = 0 → ∀ u' : St2, u'.1 = nI jn → post (nI p) u') (H1 : ¬ (jn = 1 ∧ x5 = 0) → ∀ u' : St2, u'.1 = nI jn → post (-1) u') : wpX_price post u x5 7 := by
  obtain ⟨w, a1, a2, a3, a4, a5, a6, a7, a8, a9, a10, a11, rfl, h5, hw⟩ := hK
  unfold wpX_price
  by_cases g : x5 < 0
  · exact br_t g (H1 (fun q => absurd g (by rw [q.2]; decide)) _ rfl)
  · obtain ⟨d, hd, rfl⟩ := nI_of g
    refine br_f g (pk_le jn d (fun q => H1 (fun t => absurd t.2 (nI_ne0 (by omega) hd)) _ rfl) (fun q => ?_))
    have ej : jn = 1 := by omega
    have ed : d = 0 := by omega
    subst ej ed
    refine br_f (by decide) (br_t (by decide) ⟨pk_in 0 7 (by decide), nm_r (e' := nI p) ?_ ⟨pk_in 0 7 (by decide), nm_e (H0 rfl rfl _ rfl)⟩⟩)
    rw [nI_clamp (by decide)]
    exact h5 rfl
theorem cp_drop {post : Int32 → St2 → Prop} {jn : Nat} {u : St2} {x5 : Int32} (hu : u.1 = nI jn) (hj : jn ≤ 1)
    (H0 : jn = 1 → x5 = 0 → ∀ u' : St2, post 0 u') (H1 : ¬ (jn = 1 ∧ x5 = 0) → ∀ u' : St2, post (-1) u') : wpX_drop post u x5 := by
  obtain ⟨j, k, w, a1, a2, a3, a4, a5, a6, a7, a8, a9, a10, a11⟩ := u
  replace hu : j = nI jn := hu
  subst hu
  unfold wpX_drop
  by_cases g : x5 < 0
  · exact br_t g (H1 (fun q => absurd g (by rw [q.2]; decide)) _)
  · obtain ⟨d, hd, rfl⟩ := nI_of g
    refine br_f g (pk_lt d jn (fun q => ?_) (fun q => H1 (fun t => absurd t.2 (nI_ne0 (by omega) hd)) _))
    have ej : jn = 1 := by omega
    have ed : d = 0 := by omega
    subst ej ed
    exact nm_r (show nI 1 - 1 = nI 0 by decide) ⟨1, pk_le 0 0 (fun _ => H0 rfl rfl _) (fun z => absurd z (by omega))⟩
end
section
/-- the end of the law: price and drop -/
theorem cp_t278 {post : Int32 → St0 → Prop} {mc ms kc ks : Nat} {x5 x8 z0 z1 : Int32} {j k w : Int32} {a1 a2 a3 a4 a5 a6 a7 a8 a9 a10 a11 : Nat → Int32} {jn : Nat} (hu : j = nI jn) (hj : jn ≤ 1) (h8 : x8 = nI jn) (hz : z1 = z0) (H : post 1 ()) :
    wL_lawOf_278 post mc ms x5 x8 z0 z1 kc ks j k w a1 a2 a3 a4 a5 a6 a7 a8 a9 a10 a11 := by
  refine br_t hz (cp_drop (jn := jn) hu hj (fun e1 e5 u' => ?_) (fun hn u' => ?_))
  · obtain ⟨j', k', w', b1, b2, b3, b4, b5, b6, b7, b8, b9, b10, b11⟩ := u'
    exact br_f (by rw [h8, e1]; decide) (br_t e5 (br_t rfl H))
  · obtain ⟨j', k', w', b1, b2, b3, b4, b5, b6, b7, b8, b9, b10, b11⟩ := u'
    refine br_c (fun _ => br_t rfl H) (fun g => br_c (fun g2 => ?_) (fun _ => br_t rfl H))
    have ej : jn = 0 ∨ jn = 1 := by omega
    rcases ej with rfl | rfl
    · exact absurd h8 g
    · exact absurd ⟨rfl, g2⟩ hn
theorem cp_t248 {post : Int32 → St0 → Prop} {mc ms kc ks : Nat} {x4 x5 x8 z0 z1 : Int32} {j k w : Int32} {a1 a2 a3 a4 a5 a6 a7 a8 a9 a10 a11 : Nat → Int32} {jn s f p : Nat} (hK : cp_K jn s f p (j, k, w, a1, a2, a3, a4, a5, a6, a7, a8, a9, a10, a11)) (hj : jn ≤ 1) (h8 : x8 = nI jn) (h4 : jn = 1 → x4 = nI p) (hz : z1 = z0) (H : post 1 ()) :
    wL_lawOf_248 post mc ms x4 x5 x8 z0 z1 kc ks j k w a1 a2 a3 a4 a5 a6 a7 a8 a9 a10 a11 := by
  refine br_t hz (cp_price hK hj (fun e1 e5 u' hu => ?_) (fun hn u' hu => ?_))
  · obtain ⟨j', k', w', b1, b2, b3, b4, b5, b6, b7, b8, b9, b10, b11⟩ := u'
    exact br_f (by rw [h8, e1]; decide) (br_t e5 (cp_t278 hu hj h8 (h4 e1).symm H))
  · obtain ⟨j', k', w', b1, b2, b3, b4, b5, b6, b7, b8, b9, b10, b11⟩ := u'
    refine br_c (fun _ => cp_t278 hu hj h8 rfl H) (fun g => br_c (fun g2 => ?_) (fun _ => cp_t278 hu hj h8 rfl H))
    have ej : jn = 0 ∨ jn = 1 := by omega
    rcases ej with rfl | rfl
    · exact absurd h8 g
    · exact absurd ⟨rfl, g2⟩ hn
theorem cp_t200 {post : Int32 → St0 → Prop} {mc ms kc ks : Nat} {x4 x5 x8 z0 : Int32} {j k w : Int32} {a1 a2 a3 a4 a5 a6 a7 a8 a9 a10 a11 : Nat → Int32} {jn s f p : Nat} (hK : cp_K jn s f p (j, k, w, a1, a2, a3, a4, a5, a6, a7, a8, a9, a10, a11)) (hj : jn ≤ 1) (h8 : x8 = nI jn) (hp : jn = 1 → x4 = nI p ∧ 1 ≤ p ∧ p ≤ 20) (hfs : f ≤ s) (hs : s ≤ 9) (hs0 : 0 < s → jn = 1)
    (hc : ∀ r, (x5 < 0 → r = -1) → (∀ d, x5 = nI d → d < 2 ^ 31 → r = cp_c s f p d) → r = z0) (H : post 1 ()) :
    wL_lawOf_200 post mc ms x4 x5 x8 (nI s) (nI f) z0 kc ks j k w a1 a2 a3 a4 a5 a6 a7 a8 a9 a10 a11 := by
  refine cp_cost hK hfs hs (fun q => (hp q).2.2) (fun r u' hr1 hr2 hk => ?_)
  obtain ⟨j', k', w', b1, b2, b3, b4, b5, b6, b7, b8, b9, b10, b11⟩ := u'
  refine br_t (hc r hr1 hr2) (cp_within hk hfs hs hs0 hp (fun r2 u2 g1 g2 hk2 => ?_))
  obtain ⟨j2, k2, w2, c1, c2, c3, c4, c5, c6, c7, c8, c9, c10, c11⟩ := u2
  have h4 : jn = 1 → x4 = nI p := fun q => (hp q).1
  refine br_c (fun q => ?_) (fun q => cp_t248 hk2 hj h8 h4 (g1 (Int32.not_le.mp q)) H)
  have er := g2 (Int32.not_lt.mpr q)
  cases s with
  | zero =>
    have f0 : f = 0 := by omega
    subst f0
    exact br_t (by decide) (cp_t248 hk2 hj h8 h4 er H)
  | succ m =>
    rw [nI_pred]
    refine pk_le m f (fun z => cp_t248 hk2 hj h8 h4 ?_ H) (fun z => cp_t248 hk2 hj h8 h4 ?_ H)
    · rw [er, show max (m + 1 - 1) f = f by omega]
    · rw [er, show max (m + 1 - 1) f = m by omega]
/-- the law from its first look at the times on -/
theorem cp_t146 {post : Int32 → St0 → Prop} {mc ms kc ks : Nat} {x4 x5 x8 : Int32} {j k w : Int32} {a1 a2 a3 a4 a5 a6 a7 a8 a9 a10 a11 : Nat → Int32} {jn s f p : Nat} (hS : cp_S jn s f p (j, k, w, a1, a2, a3, a4, a5, a6, a7, a8, a9, a10, a11)) (hj : jn ≤ 1) (h8 : x8 = nI jn) (hp : jn = 1 → x4 = nI p ∧ 1 ≤ p ∧ p ≤ 20) (hfs : f ≤ s) (hs : s ≤ 9) (hs0 : 0 < s → jn = 1) (H : post 1 ()) :
    wL_lawOf_146 post mc ms x4 x5 x8 (nI s) (nI f) kc ks j k w a1 a2 a3 a4 a5 a6 a7 a8 a9 a10 a11 := by
  refine cp_slow hS (fun u' hk => ?_)
  obtain ⟨j', k', w', b1, b2, b3, b4, b5, b6, b7, b8, b9, b10, b11⟩ := u'
  refine br_t rfl (cp_fast (cp_KS hk) (fun u2 hk2 => ?_))
  obtain ⟨j2, k2, w2, c1, c2, c3, c4, c5, c6, c7, c8, c9, c10, c11⟩ := u2
  refine br_t rfl ?_
  by_cases g : x5 < 0
  · have gf : ¬ nI f ≤ x5 := fun z => absurd (Int32.lt_of_le_of_lt z g) (nI_pos (by omega))
    exact br_f gf (cp_t200 hk2 hj h8 hp hfs hs hs0 (fun r h1 _ => h1 g) H)
  · obtain ⟨d, hd, rfl⟩ := nI_of g
    refine pk_le f d (fun q => pk_lt d s (fun q2 => cp_t200 hk2 hj h8 hp hfs hs hs0 (fun r _ h2 => ?_) H) (fun q2 => cp_t200 hk2 hj h8 hp hfs hs hs0 (fun r _ h2 => ?_) H)) (fun q => cp_t200 hk2 hj h8 hp hfs hs hs0 (fun r _ h2 => ?_) H)
    · rw [h2 d rfl hd, cp_c3 q q2, (hp (hs0 (by omega))).1, pk_sub (by omega), pk_mul]
    · rw [h2 d rfl hd, cp_c2 q q2]
    · rw [h2 d rfl hd, cp_c1 q]
end
section
/-- the job is taken -/
def cp_ok (x0 x1 x2 x3 x4 : Int32) : Prop := ¬ x3 < 0 ∧ ¬ x2 < x3 ∧ ¬ 9 < x2 ∧ ¬ 3 < x2 - x3 ∧ ¬ x4 < 1 ∧ ¬ 20 < x4 ∧ ¬ x0 < 0 ∧ ¬ x1 ≤ x0 ∧ ¬ 5 < x1
theorem cp_nums {x0 x1 x2 x3 x4 : Int32} (h : cp_ok x0 x1 x2 x3 x4) : ∃ fr t s f p : Nat, x0 = nI fr ∧ x1 = nI t ∧ x2 = nI s ∧ x3 = nI f ∧ x4 = nI p ∧ fr < t ∧ t ≤ 5 ∧ f ≤ s ∧ s ≤ 9 ∧ 1 ≤ p ∧ p ≤ 20 := by
  obtain ⟨h1, h2, h3, h4, h5, h6, h7, h8, h9⟩ := h
  obtain ⟨f, hf, rfl⟩ := nI_of h1
  obtain ⟨fr, hfr, rfl⟩ := nI_of h7
  have e0 : (0 : Int32).toInt = 0 := by decide
  have e1 : (1 : Int32).toInt = 1 := by decide
  have g2 : ¬ x2 < 0 := by
    rw [Int32.lt_iff_toInt_lt, nI_toInt hf] at h2
    rw [Int32.lt_iff_toInt_lt, e0]
    omega
  have g1 : ¬ x1 < 0 := by
    rw [Int32.le_iff_toInt_le, nI_toInt hfr] at h8
    rw [Int32.lt_iff_toInt_lt, e0]
    omega
  have g4 : ¬ x4 < 0 := by
    rw [Int32.lt_iff_toInt_lt, e1] at h5
    rw [Int32.lt_iff_toInt_lt, e0]
    omega
  obtain ⟨s, hs, rfl⟩ := nI_of g2
  obtain ⟨t, ht, rfl⟩ := nI_of g1
  obtain ⟨p, hp, rfl⟩ := nI_of g4
  have q2 : ¬ s < f := fun z => h2 ((nI_ltI hs hf).mpr z)
  have q3 : ¬ 9 < s := fun z => h3 ((nI_ltI (a := 9) (by decide) hs).mpr z)
  have q5 : ¬ p < 1 := fun z => h5 ((nI_ltI (b := 1) hp (by decide)).mpr z)
  have q6 : ¬ 20 < p := fun z => h6 ((nI_ltI (a := 20) (by decide) hp).mpr z)
  have q8 : ¬ t ≤ fr := fun z => h8 ((nI_leI ht hfr).mpr z)
  have q9 : ¬ 5 < t := fun z => h9 ((nI_ltI (a := 5) (by decide) ht).mpr z)
  exact ⟨fr, t, s, f, p, rfl, rfl, rfl, rfl, rfl, by omega, by omega, by omega, by omega, by omega, by omega⟩
theorem cp_51 {post : Int32 → St2 → Prop} {x1 x2 x3 x4 x5 x6 z0 : Int32} {k w : Int32} {a1 a2 a3 a4 a5 a6 a7 a8 a9 a10 a11 : Nat → Int32}
    (H0 : ¬ (¬ x6 = 0 ∧ ¬ z0 = 0 ∧ ¬ x5 < 1 ∧ x5 ≤ 20) → post (-1) (0, k, w, a1, a2, a3, a4, a5, a6, a7, a8, a9, a10, a11))
    (H1 : (¬ x6 = 0 ∧ ¬ z0 = 0 ∧ ¬ x5 < 1 ∧ x5 ≤ 20) → post 1 (1, 0, w, upd a1 0 x1, upd a2 0 x2, upd a3 0 x3, upd a4 0 x4, upd a5 0 x5, a6, a7, a8, a9, a10, a11)) :
    wX_add_51 post x1 x2 x3 x4 x5 x6 z0 0 k w a1 a2 a3 a4 a5 a6 a7 a8 a9 a10 a11 := by
  have v : vp_in 0 7 := pk_in 0 7 (by decide)
  have e : (0 : Int32).toNatClampNeg = 0 := by decide
  exact br_f (by decide) (br_c (fun g => H0 (fun q => q.1 g)) (fun g1 => br_c (fun g => H0 (fun q => q.2.1 g)) (fun g2 => br_c (fun g => H0 (fun q => q.2.2.1 g)) (fun g3 => br_c (fun g4 => ⟨v, nm_r (by rw [e]) ⟨v, nm_r (by rw [e]) ⟨v, nm_r (by rw [e]) ⟨v, nm_r (by rw [e]) ⟨v, nm_r (by rw [e]) (nm_r (show (0 : Int32) + 1 = 1 by decide) (H1 ⟨g1, g2, g3, g4⟩))⟩⟩⟩⟩⟩) (fun g => H0 (fun q => g q.2.2.2))))))
theorem cp_add {post : Int32 → St2 → Prop} {x0 x1 x2 x3 x4 : Int32} {k w : Int32} {a1 a2 a3 a4 a5 a6 a7 a8 a9 a10 a11 : Nat → Int32}
    (H0 : ¬ cp_ok x0 x1 x2 x3 x4 → post (-1) (0, k, w, a1, a2, a3, a4, a5, a6, a7, a8, a9, a10, a11))
    (H1 : cp_ok x0 x1 x2 x3 x4 → post 1 (1, 0, w, upd a1 0 x0, upd a2 0 x1, upd a3 0 x2, upd a4 0 x3, upd a5 0 x4, a6, a7, a8, a9, a10, a11)) :
    wpX_add post (0, k, w, a1, a2, a3, a4, a5, a6, a7, a8, a9, a10, a11) x0 x1 x2 x3 x4 := by
  have B : ∀ x6, (x6 = 0 → ¬ cp_ok x0 x1 x2 x3 x4) → (¬ x6 = 0 → ¬ x0 < 0 ∧ ¬ x1 ≤ x0 ∧ ¬ 5 < x1) → wX_add_19 post x0 x1 x2 x3 x4 x6 0 k w a1 a2 a3 a4 a5 a6 a7 a8 a9 a10 a11 := by
    intro x6 hn hy
    have Q : ¬ cp_ok x0 x1 x2 x3 x4 → wX_add_50 post x0 x1 x2 x3 x4 x6 0 k w a1 a2 a3 a4 a5 a6 a7 a8 a9 a10 a11 := fun q => cp_51 (fun _ => H0 q) (fun g => absurd rfl g.2.1)
    refine br_c (fun g => Q (fun q => q.1 g)) (fun g1 => br_c (fun g => Q (fun q => q.2.1 g)) (fun g2 => br_c (fun g => Q (fun q => q.2.2.1 g)) (fun g3 => br_c (fun g => Q (fun q => q.2.2.2.1 g)) (fun g4 => ?_))))
    refine cp_51 (fun g => H0 (fun q => ?_)) (fun g => H1 ?_)
    · exact g ⟨fun z => hn z q, cp_10, q.2.2.2.2.1, Int32.not_lt.mp q.2.2.2.2.2.1⟩
    · have y := hy g.1
      exact ⟨g1, g2, g3, g4, g.2.2.1, Int32.not_lt.mpr g.2.2.2, y.1, y.2.1, y.2.2⟩
  have N : ¬ cp_ok x0 x1 x2 x3 x4 → wX_add_18 post x0 x1 x2 x3 x4 0 k w a1 a2 a3 a4 a5 a6 a7 a8 a9 a10 a11 := fun q => B 0 (fun _ => q) (fun z => absurd rfl z)
  unfold wpX_add
  exact br_c (fun g => N (fun q => q.2.2.2.2.2.2.1 g)) (fun g1 => br_c (fun g => N (fun q => q.2.2.2.2.2.2.2.1 g)) (fun g2 => br_c (fun g => N (fun q => q.2.2.2.2.2.2.2.2 g)) (fun g3 => B 1 (fun z => absurd z cp_10) (fun _ => ⟨g1, g2, g3⟩))))
theorem cp_t121 {post : Int32 → St0 → Prop} {mc ms kc ks : Nat} {x2 x3 x4 x5 x8 : Int32} {j k w : Int32} {a1 a2 a3 a4 a5 a6 a7 a8 a9 a10 a11 : Nat → Int32} (h : wL_lawOf_146 post mc ms x4 x5 x8 0 0 kc ks j k w a1 a2 a3 a4 a5 a6 a7 a8 a9 a10 a11) : wL_lawOf_121 post mc ms x2 x3 x4 x5 x8 kc ks j k w a1 a2 a3 a4 a5 a6 a7 a8 a9 a10 a11 :=
  br_t rfl (br_t rfl h)
/-- the law from add on -/
theorem cp_t75 {post : Int32 → St0 → Prop} {mc ms kc ks : Nat} {x0 x1 x2 x3 x4 x5 z0 : Int32} {a1 a2 a3 a4 a5 a6 a7 a8 a9 a10 a11 : Nat → Int32} (hn : ¬ cp_ok x0 x1 x2 x3 x4 → z0 = 0) (hy : cp_ok x0 x1 x2 x3 x4 → z0 = 1) (H : post 1 ()) :
    wL_lawOf_75 post mc ms x0 x1 x2 x3 x4 x5 z0 kc ks 0 0 0 a1 a2 a3 a4 a5 a6 a7 a8 a9 a10 a11 := by
  refine cp_add (fun q => ?_) (fun q => ?_)
  · have e := hn q
    subst e
    exact br_t rfl (br_t rfl (br_t rfl (cp_t121 (cp_t146 (jn := 0) (s := 0) (f := 0) (p := 0) cp_S0 (by omega) rfl (fun z => absurd z (by omega)) (by omega) (by omega) (fun z => absurd z (by omega)) H))))
  · have e := hy q
    subst e
    obtain ⟨fr, t, s, f, p, rfl, rfl, rfl, rfl, rfl, h1, h2, h3, h4, h5, h6⟩ := cp_nums q
    refine br_f cp_10 (br_t rfl (br_f cp_10 ?_))
    have N : ¬ (fr = 0 ∧ t = 5) → wL_lawOf_121 post mc ms (nI s) (nI f) (nI p) x5 1 kc ks 1 0 0 (upd a1 0 (nI fr)) (upd a2 0 (nI t)) (upd a3 0 (nI s)) (upd a4 0 (nI f)) (upd a5 0 (nI p)) a6 a7 a8 a9 a10 a11 := fun g =>
      cp_t121 (cp_t146 (jn := 1) (s := 0) (f := 0) (p := p) (cp_SN (fr := fr) (t := t) pk_us pk_us h1 (by omega) g pk_us) (by omega) rfl (fun _ => ⟨rfl, h5, h6⟩) (by omega) (by omega) (fun _ => rfl) H)
    refine pk_eq fr 0 (fun g => pk_eq t 5 (fun g2 => ?_) (fun g2 => N (fun q => g2 q.2))) (fun g => N (fun q => g q.1))
    subst g g2
    exact br_f cp_10 (br_f cp_10 (cp_t146 (jn := 1) (s := s) (f := f) (p := p) (cp_SW pk_us pk_us pk_us pk_us pk_us h3 h4 h5 h6) (by omega) rfl (fun _ => ⟨rfl, h5, h6⟩) h3 h4 (fun _ => rfl) H))
theorem cp_t48 {post : Int32 → St0 → Prop} {mc ms kc ks : Nat} {x0 x1 x2 x3 x4 x5 : Int32} {j k w : Int32} {a1 a2 a3 a4 a5 a6 a7 a8 a9 a10 a11 : Nat → Int32} (h : wL_lawOf_75 post mc ms x0 x1 x2 x3 x4 x5 0 kc ks j k w a1 a2 a3 a4 a5 a6 a7 a8 a9 a10 a11) : wL_lawOf_48 post mc ms x0 x1 x2 x3 x4 x5 kc ks j k w a1 a2 a3 a4 a5 a6 a7 a8 a9 a10 a11 :=
  br_t rfl h
theorem cp_lawOf {post : Int32 → St0 → Prop} {x0 x1 x2 x3 x4 x5 : Int32} (H : post 1 ()) : wpL_lawOf post 12 381 () x0 x1 x2 x3 x4 x5 := by
  refine ⟨by decide, by decide, 11, 367, by decide, by decide, ?_⟩
  refine ⟨by decide, by decide, by decide, by decide, by decide, by decide, by decide, by decide, by decide, by decide, by decide, by decide, by decide, by decide, by decide, by decide, by decide, by decide, by decide, by decide, by decide, by decide, ?_⟩
  have N : ¬ cp_ok x0 x1 x2 x3 x4 → wL_lawOf_75 post 12 381 x0 x1 x2 x3 x4 x5 0 (1 + 11) (14 + 367) 0 0 0 (fun _ => 0) (fun _ => 0) (fun _ => 0) (fun _ => 0) (fun _ => 0) (fun _ => 0) (fun _ => 0) (fun _ => 0) (fun _ => 0) (fun _ => 0) (fun _ => 0) :=
    fun q => cp_t75 (fun _ => rfl) (fun z => absurd z q) H
  have Y : cp_ok x0 x1 x2 x3 x4 → wL_lawOf_75 post 12 381 x0 x1 x2 x3 x4 x5 1 (1 + 11) (14 + 367) 0 0 0 (fun _ => 0) (fun _ => 0) (fun _ => 0) (fun _ => 0) (fun _ => 0) (fun _ => 0) (fun _ => 0) (fun _ => 0) (fun _ => 0) (fun _ => 0) (fun _ => 0) :=
    fun q => cp_t75 (fun z => absurd q z) (fun _ => rfl) H
  refine br_c (fun g => cp_t48 (N (fun q => q.1 g))) (fun g1 => br_c (fun g => cp_t48 (N (fun q => q.2.1 g))) (fun g2 => br_c (fun g => cp_t48 (N (fun q => q.2.2.1 g))) (fun g3 => br_c (fun g => cp_t48 (N (fun q => q.2.2.2.1 g))) (fun g4 => br_c (fun g => cp_t48 (N (fun q => q.2.2.2.2.1 g))) (fun g5 => br_c (fun g => cp_t48 (N (fun q => q.2.2.2.2.2.1 g))) (fun g6 => ?_))))))
  exact br_f cp_10 (br_c (fun g => N (fun q => q.2.2.2.2.2.2.1 g)) (fun g7 => br_c (fun g => N (fun q => q.2.2.2.2.2.2.2.1 g)) (fun g8 => br_c (fun g => N (fun q => q.2.2.2.2.2.2.2.2 g)) (fun g9 => Y ⟨g1, g2, g3, g4, g5, g6, g7, g8, g9⟩))))
theorem i_vc (xs : Nat → Int32) (L : Nat) (hL : L ≤ 6) : wpL_law (fun r => r = 1) L xs := by
  unfold wpL_law
  exact cp_cell hL 0 (by decide) (fun r1 => cp_cell hL 1 (by decide) (fun r2 => cp_cell hL 2 (by decide) (fun r3 => cp_cell hL 3 (by decide) (fun r4 => cp_cell hL 4 (by decide) (fun r5 => cp_cell hL 5 (by decide) (fun r6 => ⟨12, 381, by decide, by decide, cp_lawOf rfl⟩))))))
end
