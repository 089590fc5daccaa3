section
section
variable {fm fw fr fa fs fv ft fg fl : Int32} {a1 a2 a3 a4 a5 a6 a7 a8 a9 a10 a11 a12 : Nat → Int32}
/-- bit i of a small set, as the walks ask for it -/
theorem rr_bit : ∀ s, s < 8 → ∀ i, i < 6 → (((nI s >>> (nI i &&& 31)) &&& 1) = 0 ↔ s.testBit i = false) := by decide +kernel
theorem rr_or : ∀ s, s < 8 → ∀ i, i < 3 → nI s ||| ((1 : Int32) <<< (nI i &&& 31)) = nI (s ||| 2 ^ i) := by decide +kernel
theorem rr_nf {x : Bool} (h : ¬ x = false) : x = true := by cases x <;> simp_all
/-- the set of the places below i where b says yes -/
def rr_m (b : Nat → Bool) : Nat → Nat
  | 0 => 0
  | i + 1 => if b i = true then rr_m b i ||| 2 ^ i else rr_m b i
theorem rr_mf {b : Nat → Bool} {i : Nat} (h : b i = false) : rr_m b (i + 1) = rr_m b i := by
  show (if b i = true then rr_m b i ||| 2 ^ i else rr_m b i) = rr_m b i
  rw [h]; rfl
theorem rr_mt {b : Nat → Bool} {i : Nat} (h : b i = true) : rr_m b (i + 1) = rr_m b i ||| 2 ^ i := by
  show (if b i = true then rr_m b i ||| 2 ^ i else rr_m b i) = rr_m b i ||| 2 ^ i
  rw [h]; rfl
theorem rr_m_lt (b : Nat → Bool) {i : Nat} (hi : i ≤ 3) : rr_m b i < 8 := by
  have h : i = 0 ∨ i = 1 ∨ i = 2 ∨ i = 3 := by omega
  rcases h with rfl | rfl | rfl | rfl <;> simp only [rr_m] <;> cases b 0 <;> cases b 1 <;> cases b 2 <;> decide
theorem rr_m_free (b : Nat → Bool) {i : Nat} (hi : i < 3) : (rr_m b i).testBit i = false := by
  have h : i = 0 ∨ i = 1 ∨ i = 2 := by omega
  rcases h with rfl | rfl | rfl <;> simp only [rr_m] <;> cases b 0 <;> cases b 1 <;> cases b 2 <;> decide
theorem rr_m_bit (b : Nat → Bool) {i : Nat} (hi : i < 3) : (rr_m b 3).testBit i = b i := by
  have h : i = 0 ∨ i = 1 ∨ i = 2 := by omega
  rcases h with rfl | rfl | rfl <;> simp only [rr_m] <;> cases b 0 <;> cases b 1 <;> cases b 2 <;> decide
def rr_pc (s : Nat) : Nat → Nat
  | 0 => 0
  | i + 1 => rr_pc s i + (if s.testBit i = true then 1 else 0)
theorem rr_pcs : ∀ s, s < 8 → ∀ i, i < 6 → nI (rr_pc s i) + ((nI s >>> (nI i &&& 31)) &&& 1) = nI (rr_pc s (i + 1)) := by decide +kernel
theorem rr_pc6 : ∀ s, s < 8 → rr_pc s 6 < 7 := by decide +kernel
/-- at least two of the three -/
def rr_two (b : Nat → Bool) : Prop := ((b 0 && b 1) || (b 0 && b 2) || (b 1 && b 2)) = true
theorem rr_two_pc {b : Nat → Bool} (h : rr_two b) : 2 ≤ rr_pc (rr_m b 3) 6 := by
  unfold rr_two at h
  simp only [rr_m]
  revert h
  cases b 0 <;> cases b 1 <;> cases b 2 <;> decide
theorem rr_two_ne {b : Nat → Bool} (h : rr_two b) : rr_m b 3 ≠ 0 := by
  unfold rr_two at h
  simp only [rr_m]
  revert h
  cases b 0 <;> cases b 1 <;> cases b 2 <;> decide
theorem rr_m_mono {b : Nat → Bool} {i : Nat} (h : b i = true) (hi : i < 3) : rr_m b (i + 1) ≠ 0 := by
  have h : i = 0 ∨ i = 1 ∨ i = 2 := by omega
  rcases h with rfl | rfl | rfl <;> simp only [rr_m] <;> simp only [h] <;> cases b 0 <;> cases b 1 <;> decide
theorem rr_ones {post : Int32 → Prop} {u : St0} {s : Nat} (hs : s < 8) (H : post (nI (rr_pc s 6))) : wpX_ones post u (nI s) :=
  pk_loop (σ := Unit) (fun n i _ => wX_ones_4 post (nI s) n (nI (rr_pc s i)) (nI i)) (fun _ _ => True) 6 0 () (by omega) trivial
    (fun n _ _ => pk_le 6 6 (fun _ => H) (fun z => absurd z (by omega)))
    (fun n i _ hi _ hw => pk_le 6 i (fun z => absurd z (by omega)) (fun _ => nm_r (rr_pcs s hs i hi) (nm_r (nI_1 i) (hw () trivial))))
theorem rr_mach {post : Int32 → Prop} {u : St0} {p : Int32} (H0 : (∀ m, m < 6 → p ≠ nI m) → post 0) (H1 : ∀ m, m < 6 → p = nI m → post 1) : wpX_isMachine post u p := by
  refine br_c (fun h => H0 (fun m hm e => ?_)) (fun h => br_c (fun h6 => H0 (fun m hm e => ?_)) (fun h6 => ?_))
  · rw [e] at h
    exact nI_pos (by omega) h
  · rw [e] at h6
    exact nI_ge (b := 6) hm (by decide) h6
  · obtain ⟨j, hj, e⟩ := nI_of h
    refine H1 j ?_ e
    rcases Nat.lt_or_ge j 6 with z | z
    · exact z
    · rw [e] at h6
      exact absurd (nI_le (a := 6) z hj) h6
theorem rr_key {post : Int32 → Prop} {u : St0} {p : Int32} (H0 : (∀ m, m < 16 → p ≠ nI m) → post 0) (H1 : ∀ m, m < 16 → p = nI m → post 1) : wpX_isKey post u p := by
  refine br_c (fun h => H0 (fun m hm e => ?_)) (fun h => br_c (fun h6 => H0 (fun m hm e => ?_)) (fun h6 => ?_))
  · rw [e] at h
    exact nI_pos (by omega) h
  · rw [e] at h6
    exact nI_ge (b := 16) hm (by decide) h6
  · obtain ⟨j, hj, e⟩ := nI_of h
    refine H1 j ?_ e
    rcases Nat.lt_or_ge j 16 with z | z
    · exact z
    · rw [e] at h6
      exact absurd (nI_le (a := 16) z hj) h6
/-- a ≤ x ≤ b -/
def rr_r (a b x : Int32) : Bool := !decide (x < a) && !decide (b < x)
theorem rr_num {post : Int32 → Prop} {u : St0} {p : Int32} (H0 : rr_r (-9999) 9999 p = false → post 0) (H1 : rr_r (-9999) 9999 p = true → post 1) : wpX_isNumber post u p := by
  refine br_c (fun h => H0 ?_) (fun h => br_c (fun h6 => H0 ?_) (fun h6 => H1 ?_))
  · simp [rr_r, h]
  · simp [rr_r, h6]
  · simp [rr_r, h, h6]
theorem rr_has {post : Int32 → Prop} {s i : Nat} (hs : s < 8) (hi : i < 6) (H0 : s.testBit i = false → post 0) (H1 : s.testBit i = true → post 1) : wpX_hasAnswered post (fm, fw, fr, nI s, fs, fv, ft, fg, fl, a1, a2, a3, a4, a5, a6, a7, a8, a9, a10, a11, a12) (nI i) :=
  br_c (fun z => H0 ((rr_bit s hs i hi).mp z)) (fun z => H1 (rr_nf (fun y => z ((rr_bit s hs i hi).mpr y))))
theorem rr_wkg {post : Int32 → Prop} {w : Nat} {p : Int32} (hw : w < 8) (H0 : (∀ m, m < 6 → p = nI m → w.testBit m = false) → post 0) (H1 : ∀ m, m < 6 → p = nI m → w.testBit m = true → post 1) : wpX_isWorking post (fm, nI w, fr, fa, fs, fv, ft, fg, fl, a1, a2, a3, a4, a5, a6, a7, a8, a9, a10, a11, a12) p := by
  unfold wpX_isWorking
  refine rr_mach (fun h => br_t rfl (H0 (fun m hm e => absurd e (h m hm)))) (fun m hm e => br_f (by decide) (br_c (fun z => H0 (fun m' hm' e' => ?_)) (fun z => H1 m hm e ?_)))
  · rw [e] at z e'
    rw [← (nI_eq (by omega) (by omega)).mp e']
    exact (rr_bit w hw m hm).mp z
  · rw [e] at z
    exact rr_nf (fun y => z ((rr_bit w hw m hm).mpr y))
theorem rr_wk {post : Int32 → Prop} {w m : Nat} (hw : w < 8) (hm : m < 6) (H0 : w.testBit m = false → post 0) (H1 : w.testBit m = true → post 1) : wpX_isWorking post (fm, nI w, fr, fa, fs, fv, ft, fg, fl, a1, a2, a3, a4, a5, a6, a7, a8, a9, a10, a11, a12) (nI m) :=
  rr_wkg hw (fun h => H0 (h m hm rfl)) (fun m' hm' e h => H1 (by rw [(nI_eq (by omega) (by omega)).mp e]; exact h))
theorem rr_7b : ∀ m, m < 6 → (7 : Nat).testBit m = decide (m < 3) := by decide +kernel
theorem rr_mem {post : Int32 → Prop} {m : Nat} (hm : m < 6) (H0 : 3 ≤ m → post 0) (H1 : m < 3 → post 1) : wpX_isMember post (7, fw, fr, fa, fs, fv, ft, fg, fl, a1, a2, a3, a4, a5, a6, a7, a8, a9, a10, a11, a12) (nI m) := by
  unfold wpX_isMember
  refine rr_mach (fun h => absurd rfl (h m hm)) (fun m' hm' e => br_f (by decide) (br_c (fun z => H0 ?_) (fun z => H1 ?_)))
  · have h := (rr_bit 7 (by decide) m hm).mp z
    rw [rr_7b m hm] at h
    have h3 := of_decide_eq_false h
    omega
  · have h := rr_nf (fun y => z ((rr_bit 7 (by decide) m hm).mpr y))
    rw [rr_7b m hm] at h
    exact of_decide_eq_true h
theorem rr_ct {post : Int32 → St2 → Prop} {p q : Int32} (H : ∀ g : Int32, post 1 (fm, fw, fr, fa, fs, fv, ft, g, 0, a1, a2, a3, a4, a5, a6, a7, a8, a9, a10, a11, a12)) : wpX_comesThrough post (fm, fw, fr, fa, fs, fv, ft, fg, 0, a1, a2, a3, a4, a5, a6, a7, a8, a9, a10, a11, a12) p q :=
  br_c (fun _ => H _) (fun _ => nm_e (br_t rfl (H _)))
theorem rr_cell (m k : Nat) : nI m * 16 + nI k = nI (m * 16 + k) := by
  rw [show (16 : Int32) = nI 16 from rfl, pk_mul, nI_add]
theorem rr_hear {post : St2 → Prop} {m k t : Nat} {x : Int32} (hm : m < 3) (hk : k < 16) (ht : t < 1000) (h3 : a3 (m * 16 + k) = nI t) (h4 : a4 (m * 16 + k) = x) (h5 : a5 (m * 16 + k) = 0) (hx : t = 0 → x = 0)
    (hs : (fs = nI 0 ∧ fv = 0 ∧ ft = 0) ∨ (fs = nI t ∧ fv = x ∧ ft = 0)) (H : post (fm, fw, fr, fa, nI t, x, 0, fg, fl, a1, a2, a3, a4, a5, a6, a7, a8, a9, a10, a11, a12)) : wpX_hear post (fm, fw, fr, fa, fs, fv, ft, fg, fl, a1, a2, a3, a4, a5, a6, a7, a8, a9, a10, a11, a12) (nI m) (nI k) := by
  refine nm_r (rr_cell m k) ⟨pk_in (m * 16 + k) 96 (by omega), ?_⟩
  rw [nI_clamp (show m * 16 + k < 2 ^ 31 by omega), h3, h4, h5]
  refine br_c (fun z => ?_) (fun z => ⟨pk_in (m * 16 + k) 96 (by omega), nm_e ⟨pk_in (m * 16 + k) 96 (by omega), nm_e ⟨pk_in (m * 16 + k) 96 (by omega), nm_e ⟨by rfl, by rfl, H⟩⟩⟩⟩)
  rcases hs with ⟨e1, e2, e3⟩ | ⟨e1, e2, e3⟩
  · rw [e1, nI_leI (by omega) (by omega)] at z
    have t0 : t = 0 := by omega
    rw [e1, e2, e3]
    rw [hx t0, t0] at H
    exact H
  · rw [e1, e2, e3]
    exact H
theorem rr_store {post : St2 → Prop} {m k t t' : Nat} (hm : m < 3) (hk : k < 16) (h3 : a3 (m * 16 + k) = nI t) (ht : t < t') (ht' : t' < 1000)
    (H : post (fm, fw, fr, fa, nI t', fv, 0, fg, fl, a1, a2, upd a3 (m * 16 + k) (nI t'), upd a4 (m * 16 + k) fv, upd a5 (m * 16 + k) 0, a6, a7, a8, a9, a10, a11, a12)) : wpX_store post (fm, fw, fr, fa, nI t', fv, 0, fg, fl, a1, a2, a3, a4, a5, a6, a7, a8, a9, a10, a11, a12) (nI m) (nI k) := by
  refine nm_r (rr_cell m k) ⟨pk_in (m * 16 + k) 96 (by omega), ?_⟩
  rw [nI_clamp (show m * 16 + k < 2 ^ 31 by omega), h3]
  exact br_f (nI_ge ht (by omega)) ⟨pk_in (m * 16 + k) 96 (by omega), nm_e ⟨pk_in (m * 16 + k) 96 (by omega), nm_e ⟨pk_in (m * 16 + k) 96 (by omega), nm_r (by rfl) H⟩⟩⟩
theorem rr_hint {post : St2 → Prop} {c m k : Nat} (hc : c < 6) (hm : m < 6) (hk : k < 16) (H : ∀ b6 b7 b8 : Nat → Int32, post (fm, fw, fr, fa, fs, fv, ft, fg, fl, a1, a2, a3, a4, a5, b6, b7, b8, a9, a10, a11, a12)) : wpX_hint post (fm, fw, fr, fa, fs, fv, ft, fg, fl, a1, a2, a3, a4, a5, a6, a7, a8, a9, a10, a11, a12) (nI c) (nI m) (nI k) := by
  have e : ((nI c * 6 + nI m) * 16) + nI k = nI ((c * 6 + m) * 16 + k) := by
    rw [show (16 : Int32) = nI 16 from rfl, show (6 : Int32) = nI 6 from rfl, pk_mul, nI_add, pk_mul, nI_add]
  have hb : (c * 6 + m) * 16 + k < 576 := by omega
  exact nm_r e ⟨pk_in ((c * 6 + m) * 16 + k) 576 hb, br_c (fun _ => H _ _ _) (fun _ => ⟨pk_in ((c * 6 + m) * 16 + k) 576 hb, nm_e ⟨pk_in ((c * 6 + m) * 16 + k) 576 hb, nm_e ⟨pk_in ((c * 6 + m) * 16 + k) 576 hb, nm_e (H _ _ _)⟩⟩⟩)⟩
theorem rr_rn {post : Int32 → Prop} {t : Nat} {x : Int32} (ht : t < 1000) (H : post (if t = 0 then (-200000) else x)) : wpX_readNumber post (fm, fw, fr, fa, nI t, x, 0, fg, fl, a1, a2, a3, a4, a5, a6, a7, a8, a9, a10, a11, a12) :=
  br_c (fun z => by
      have h : t = 0 := (nI_eq (b := 0) (by omega) (by omega)).mp z
      rw [if_pos h] at H
      exact H)
    (fun z => br_t rfl (by
      have h : ¬ t = 0 := fun e => z (by rw [e]; rfl)
      rw [if_neg h] at H
      exact H))
theorem rr_lead {post : Int32 → Prop} {w : Nat} (hw : w < 8) (H : ∀ r, post r) : wpX_leader post (fm, nI w, fr, fa, fs, fv, ft, fg, fl, a1, a2, a3, a4, a5, a6, a7, a8, a9, a10, a11, a12) :=
  pk_loop (σ := Unit) (fun n i _ => wX_leader_2 post fm (nI w) fr fa fs fv ft fg fl a1 a2 a3 a4 a5 a6 a7 a8 a9 a10 a11 a12 n (nI i)) (fun _ _ => True) 5 0 () (by omega) trivial
    (fun n _ _ => pk_le 5 5 (fun _ => H _) (fun z => absurd z (by omega)))
    (fun n i _ hi _ hw' => pk_le 5 i (fun z => absurd z (by omega)) (fun _ => rr_wk hw (by omega) (fun _ => br_t rfl (nm_r (nI_1 i) (hw' () trivial))) (fun _ => br_f (by decide) (H _))))
end
end
section
section
variable {fm fw fr fa fs fv ft fg fl : Int32} {a1 a2 a3 a4 a5 a6 a7 a8 a9 a10 a11 a12 : Nat → Int32}
/-- n places of the ring: owners below 3 -/
def rr_own (n : Nat) (b : Nat → Int32) : Prop := ∀ p, p < n → ∃ m, m < 3 ∧ b p = nI m
/-- machine m owns one of the first n places -/
def rr_hasM (n : Nat) (b : Nat → Int32) (m : Nat) : Prop := ∃ p, p < n ∧ b p = nI m
/-- the whole ring: twelve places, each of the three machines owns one at least -/
def rr_ring (b : Nat → Int32) : Prop := rr_own 12 b ∧ ∀ m, m < 3 → rr_hasM 12 b m
theorem rr_b8 : ∀ m, m < 3 → (nI m).toInt8.toInt32 = nI m := by decide +kernel
theorem rr_vb {m : Nat} (h : m < 3) : vp_nar .byte (nI m) = nI m := by rw [vp_nar_byte, rr_b8 m h]
theorem rr_mix {post : Int32 → Prop} {u : St0} {p : Int32} (H : ∀ r, post r) : wpX_mixed post u p := nm_e (nm_e (nm_e (H _)))
theorem rr_e55 {post : St2 → Prop} {x1 : Int32} {m i n : Nat} (hm : m < 3) (hi : i < 24) (H : post (fm, fw, nI (n + 1), fa, fs, fv, ft, fg, fl, upd a1 i x1, upd a2 i (nI m), a3, a4, a5, a6, a7, a8, a9, a10, a11, a12)) : wX_enterRing_55 post x1 (nI m) (nI i) fm fw (nI n) fa fs fv ft fg fl a1 a2 a3 a4 a5 a6 a7 a8 a9 a10 a11 a12 := by
  unfold wX_enterRing_55
  exact ⟨pk_in i 24 hi, nm_r (by rw [nI_clamp (by omega)]) ⟨pk_in i 24 hi, nm_r (by rw [nI_clamp (by omega), rr_b8 m hm]) (nm_r (nI_1 n) H)⟩⟩
theorem rr_enter {post : St2 → Prop} {pt : Int32} {m n : Nat} (hm : m < 3) (hn : n < 24) (ho : rr_own n a2)
    (H : ∀ b1 b2 : Nat → Int32, rr_own (n + 1) b2 → rr_hasM (n + 1) b2 m → (∀ m', rr_hasM n a2 m' → rr_hasM (n + 1) b2 m') → post (fm, fw, nI (n + 1), fa, fs, fv, ft, fg, fl, b1, b2, a3, a4, a5, a6, a7, a8, a9, a10, a11, a12)) : wpX_enterRing post (fm, fw, nI n, fa, fs, fv, ft, fg, fl, a1, a2, a3, a4, a5, a6, a7, a8, a9, a10, a11, a12) pt (nI m) := by
  have ex : ∀ (i : Nat) (b1 b2 : Nat → Int32), i ≤ n → (∀ p, p < i → b2 p = a2 p) → (∀ p, i ≤ p → p < n → b2 (p + 1) = a2 p) → wX_enterRing_55 post pt (nI m) (nI i) fm fw (nI n) fa fs fv ft fg fl b1 b2 a3 a4 a5 a6 a7 a8 a9 a10 a11 a12 := by
    intro i b1 b2 hi h1 h2
    refine rr_e55 hm (by omega) (H _ _ (fun p hp => ?_) ⟨i, by omega, pk_us⟩ (fun m' hm' => ?_))
    · by_cases e : p = i
      · rw [e, pk_us]
        exact ⟨m, hm, rfl⟩
      · rw [pk_un e]
        by_cases e2 : p < i
        · rw [h1 p e2]
          exact ho p (by omega)
        · have e3 := h2 (p - 1) (by omega) (by omega)
          rw [show p - 1 + 1 = p by omega] at e3
          rw [e3]
          exact ho (p - 1) (by omega)
    · obtain ⟨p, hp, e⟩ := hm'
      by_cases e2 : p < i
      · exact ⟨p, by omega, by rw [pk_un (by omega), h1 p e2]; exact e⟩
      · exact ⟨p + 1, by omega, by rw [pk_un (by omega), h2 p (by omega) hp]; exact e⟩
  refine ⟨n + 1, pk_loopD (σ := (Nat → Int32) × (Nat → Int32)) (fun f i s => wX_enterRing_5 post pt (nI m) fm fw (nI n) fa fs fv ft fg fl f (nI i) s.1 s.2 a3 a4 a5 a6 a7 a8 a9 a10 a11 a12)
    (fun i s => i ≤ n ∧ (∀ p, p < i → s.2 p = a2 p) ∧ (∀ p, i ≤ p → p < n → s.2 (p + 1) = a2 p)) ?_ ?_ n (a1, a2) ⟨by omega, fun _ _ => rfl, fun p h1 h2 => absurd h1 (by omega)⟩⟩
  · intro f s h
    exact pk_le 0 0 (fun _ => ex 0 s.1 s.2 h.1 h.2.1 h.2.2) (fun z => absurd z (by omega))
  · intro f i s h hw
    obtain ⟨b1, b2⟩ := s
    obtain ⟨h0, h1, h2⟩ := h
    dsimp only at h1 h2
    have e1 : nI (i + 1) - 1 = nI i := nI_pred i
    have c1 : (nI (i + 1) - 1).toNatClampNeg = i := by rw [e1, nI_clamp (by omega)]
    have c2 : (nI (i + 1)).toNatClampNeg = i + 1 := nI_clamp (by omega)
    obtain ⟨m', hm', em⟩ := ho i (by omega)
    have e2 : b2 i = nI m' := by rw [h1 i (by omega), em]
    refine pk_le (i + 1) 0 (fun z => absurd z (by omega)) (fun _ => ⟨pk_in i 24 (by omega) e1, br_c (fun _ => ex (i + 1) b1 b2 h0 h1 h2) (fun _ => ⟨pk_in i 24 (by omega) e1, pk_in (i + 1) 24 (by omega), nm_e ⟨pk_in i 24 (by omega) e1, pk_in (i + 1) 24 (by omega), nm_r (e' := upd b2 (i + 1) (a2 i)) ?_ (nm_r (pk_m1 i) (hw (_, upd b2 (i + 1) (a2 i)) ⟨by omega, ?_, ?_⟩))⟩⟩)⟩)
    · show upd b2 (nI (i + 1)).toNatClampNeg (vp_nar .byte (b2 (nI (i + 1) - 1).toNatClampNeg)) = _
      rw [c1, c2, e2, rr_vb hm', em]
    · intro p hp
      show upd b2 (i + 1) (a2 i) p = a2 p
      rw [pk_un (by omega)]
      exact h1 p (by omega)
    · intro p h3 h4
      show upd b2 (i + 1) (a2 i) (p + 1) = a2 p
      by_cases e : p = i
      · rw [e, pk_us]
      · rw [pk_un (by omega)]
        exact h2 p (by omega) h4
theorem rr_l15 {post : St2 → Prop} {J : Int32 → Int32 → Int32 → Int32 → Int32 → Int32 → Int32 → Int32 → Int32 → Int32 → (Nat → Int32) → (Nat → Int32) → (Nat → Int32) → (Nat → Int32) → (Nat → Int32) → (Nat → Int32) → (Nat → Int32) → (Nat → Int32) → (Nat → Int32) → (Nat → Int32) → (Nat → Int32) → (Nat → Int32) → Prop} {m n0 : Nat} (hm : m < 3) (hn : n0 + 4 ≤ 24) (ho : rr_own n0 a2)
    (H : ∀ b1 b2 : Nat → Int32, rr_own (n0 + 4) b2 → (∀ m', rr_hasM n0 a2 m' → rr_hasM (n0 + 4) b2 m') → rr_hasM (n0 + 4) b2 m → J (nI (m + 1)) 7 fw (nI (n0 + 4)) fa fs fv ft fg fl b1 b2 a3 a4 a5 a6 a7 a8 a9 a10 a11 a12) : ∃ n, wX_layRing_15 post J (nI m) n 0 7 fw (nI n0) fa fs fv ft fg fl a1 a2 a3 a4 a5 a6 a7 a8 a9 a10 a11 a12 := by
  refine pk_loop (σ := (Nat → Int32) × (Nat → Int32)) (fun n i s => wX_layRing_15 post J (nI m) n (nI i) 7 fw (nI (n0 + i)) fa fs fv ft fg fl s.1 s.2 a3 a4 a5 a6 a7 a8 a9 a10 a11 a12)
    (fun i s => rr_own (n0 + i) s.2 ∧ (∀ m', rr_hasM n0 a2 m' → rr_hasM (n0 + i) s.2 m') ∧ (0 < i → rr_hasM (n0 + i) s.2 m)) 4 0 (a1, a2) (by omega) ⟨ho, fun _ h => h, fun z => absurd z (by omega)⟩ ?_ ?_
  · intro n s h
    exact pk_le 4 4 (fun _ => nm_r (nI_1 m) (H s.1 s.2 h.1 h.2.1 (h.2.2 (by omega)))) (fun z => absurd z (by omega))
  · intro n i s hi h hw
    exact pk_le 4 i (fun z => absurd z (by omega)) (fun _ => rr_mem (by omega) (fun z => absurd z (by omega)) (fun _ => br_f (by decide) (rr_mix (fun r => rr_enter hm (by omega) h.1 (fun b1 b2 o hM hk => nm_r (nI_1 i) (hw (b1, b2) ⟨o, fun m' hm' => hk m' (h.2.1 m' hm'), fun _ => hM⟩))))))
theorem rr_l15n {post : St2 → Prop} {J : Int32 → Int32 → Int32 → Int32 → Int32 → Int32 → Int32 → Int32 → Int32 → Int32 → (Nat → Int32) → (Nat → Int32) → (Nat → Int32) → (Nat → Int32) → (Nat → Int32) → (Nat → Int32) → (Nat → Int32) → (Nat → Int32) → (Nat → Int32) → (Nat → Int32) → (Nat → Int32) → (Nat → Int32) → Prop} {m : Nat} (hm : 3 ≤ m) (hm6 : m < 6) (H : J (nI (m + 1)) 7 fw fr fa fs fv ft fg fl a1 a2 a3 a4 a5 a6 a7 a8 a9 a10 a11 a12) : ∃ n, wX_layRing_15 post J (nI m) n 0 7 fw fr fa fs fv ft fg fl a1 a2 a3 a4 a5 a6 a7 a8 a9 a10 a11 a12 :=
  pk_loop (σ := Unit) (fun n i _ => wX_layRing_15 post J (nI m) n (nI i) 7 fw fr fa fs fv ft fg fl a1 a2 a3 a4 a5 a6 a7 a8 a9 a10 a11 a12) (fun _ _ => True) 4 0 () (by omega) trivial
    (fun n _ _ => pk_le 4 4 (fun _ => nm_r (nI_1 m) H) (fun z => absurd z (by omega)))
    (fun n i _ hi _ hw => pk_le 4 i (fun z => absurd z (by omega)) (fun _ => rr_mem hm6 (fun _ => br_t rfl (nm_r (nI_1 i) (hw () trivial))) (fun z => absurd z (by omega))))
theorem rr_lay {post : St2 → Prop} (H : ∀ b1 b2 : Nat → Int32, rr_ring b2 → post (7, fw, 12, fa, fs, fv, ft, fg, fl, b1, b2, a3, a4, a5, a6, a7, a8, a9, a10, a11, a12)) : wpX_layRing post (7, fw, fr, fa, fs, fv, ft, fg, fl, a1, a2, a3, a4, a5, a6, a7, a8, a9, a10, a11, a12) := by
  refine pk_loop (σ := (Nat → Int32) × (Nat → Int32)) (fun n i s => wX_layRing_7 post n (nI i) 7 fw (nI (4 * min i 3)) fa fs fv ft fg fl s.1 s.2 a3 a4 a5 a6 a7 a8 a9 a10 a11 a12)
    (fun i s => rr_own (4 * min i 3) s.2 ∧ ∀ m', m' < min i 3 → rr_hasM (4 * min i 3) s.2 m') 6 0 (a1, a2) (by omega) ⟨fun p hp => absurd hp (by omega), fun m' hm' => absurd hm' (by omega)⟩ ?_ ?_
  · intro n s h
    exact pk_le 6 6 (fun _ => H s.1 s.2 h) (fun z => absurd z (by omega))
  · intro n i s hi h hw
    obtain ⟨b1, b2⟩ := s
    dsimp only at h
    refine pk_le 6 i (fun z => absurd z (by omega)) (fun _ => ?_)
    by_cases h3 : i < 3
    · have e0 : min i 3 = i := by omega
      have e1 : min (i + 1) 3 = i + 1 := by omega
      rw [e0] at h
      show ∃ fu15 : Nat, wX_layRing_15 post (wX_layRing_7 post n) (nI i) fu15 0 7 fw (nI (4 * min i 3)) fa fs fv ft fg fl b1 b2 a3 a4 a5 a6 a7 a8 a9 a10 a11 a12
      rw [e0]
      refine rr_l15 h3 (by omega) h.1 (fun c1 c2 o hk hM => ?_)
      have t := hw (c1, c2)
      dsimp only at t
      rw [e1] at t
      refine t ⟨o, fun m' hm' => ?_⟩
      by_cases e : m' = i
      · rw [e]
        exact hM
      · exact hk m' (h.2 m' (by omega))
    · have e0 : min i 3 = 3 := by omega
      have e1 : min (i + 1) 3 = 3 := by omega
      rw [e0] at h
      show ∃ fu15 : Nat, wX_layRing_15 post (wX_layRing_7 post n) (nI i) fu15 0 7 fw (nI (4 * min i 3)) fa fs fv ft fg fl b1 b2 a3 a4 a5 a6 a7 a8 a9 a10 a11 a12
      rw [e0]
      refine rr_l15n (by omega) hi ?_
      have t := hw (b1, b2)
      dsimp only at t
      rw [e1] at t
      exact t h
theorem rr_init {post : St2 → Prop} (H : ∀ b1 b2 : Nat → Int32, rr_ring b2 → post (7, 7, 12, 0, 0, 0, 0, 0, 0, b1, b2, (fun _ => 0), (fun _ => 0), (fun _ => 0), (fun _ => 0), (fun _ => 0), (fun _ => 0), (fun _ => 0), (fun _ => 0), (fun _ => 0), (fun _ => 0))) : wpX_init post 12 2160 (0, 0, 0, 0, 0, 0, 0, 0, 0) := by
  unfold wpX_init
  refine ⟨by decide, by decide, by decide, by decide, by decide, by decide, by decide, by decide, by decide, by decide, by decide, by decide, by decide, by decide, by decide, by decide, by decide, by decide, by decide, by decide, by decide, by decide, by decide, by decide, ?_⟩
  exact rr_lay H
end
end
section
section
variable {fm fw fr fa fs fv ft fg fl : Int32} {a1 a2 a3 a4 a5 a6 a7 a8 a9 a10 a11 a12 : Nat → Int32}
/-- the three keepers are three different machines below 3 -/
def rr_kp (K : Nat → Nat) (b : Nat → Int32) : Prop := (∀ q, q < 3 → K q < 3 ∧ b q = nI (K q)) ∧ ∀ q q', q < 3 → q' < 3 → K q = K q' → q = q'
/-- findKeepers at place i: f found, their set S -/
def rr_fi (lo i f S : Nat) (o b : Nat → Int32) : Prop := f ≤ 3 ∧ S < 8 ∧ f = rr_pc S 3 ∧ (∀ q, q < f → ∃ m, m < 3 ∧ b q = nI m ∧ S.testBit m = true) ∧ (∀ q q', q < f → q' < f → b q = b q' → q = q') ∧ (∀ j, j < i → ∃ m, m < 3 ∧ o ((lo + j) % 12) = nI m ∧ S.testBit m = true)
theorem rr_pc7 : ∀ S, S < 8 → S.testBit 0 = true → S.testBit 1 = true → S.testBit 2 = true → rr_pc S 3 = 3 := by decide +kernel
theorem rr_pcn : ∀ S, S < 8 → ∀ m, m < 3 → S.testBit m = false → (S ||| 2 ^ m) < 8 ∧ rr_pc (S ||| 2 ^ m) 3 = rr_pc S 3 + 1 ∧ (S ||| 2 ^ m).testBit m = true := by decide +kernel
theorem rr_pck : ∀ S, S < 8 → ∀ m, m < 3 → ∀ q, q < 3 → S.testBit q = true → (S ||| 2 ^ m).testBit q = true := by decide +kernel
theorem rr_fi_0 {lo : Nat} {o b : Nat → Int32} : rr_fi lo 0 0 0 o b :=
  ⟨by decide, by decide, by decide, fun q hq => absurd hq (by omega), fun q q' hq => absurd hq (by omega), fun j hj => absurd hj (by omega)⟩
theorem rr_fi_3 {lo i : Nat} {S : Nat} {o b : Nat → Int32} (h : rr_fi lo i 3 S o b) : rr_kp (fun q => (b q).toNatClampNeg) b := by
  obtain ⟨_, _, _, h1, h2, _⟩ := h
  have hc : ∀ q, q < 3 → (b q).toNatClampNeg < 3 ∧ b q = nI (b q).toNatClampNeg := by
    intro q hq
    obtain ⟨m, hm, e, _⟩ := h1 q hq
    have ec : (b q).toNatClampNeg = m := by rw [e, nI_clamp (by omega)]
    rw [ec]
    exact ⟨hm, e⟩
  refine ⟨hc, fun q q' hq hq' e => h2 q q' hq hq' ?_⟩
  rw [(hc q hq).2, (hc q' hq').2]
  exact congrArg nI e
theorem rr_fi_12 {lo f S : Nat} {o b : Nat → Int32} (hlo : lo ≤ 12) (hr : rr_ring o) (h : rr_fi lo 12 f S o b) : f = 3 := by
  obtain ⟨_, hS, e, _, _, h3⟩ := h
  have hb : ∀ m, m < 3 → S.testBit m = true := by
    intro m hm
    obtain ⟨p, hp, ep⟩ := hr.2 m hm
    obtain ⟨m', hm', e', hb⟩ := h3 ((p + 12 - lo) % 12) (by omega)
    rw [show (lo + (p + 12 - lo) % 12) % 12 = p by omega, ep] at e'
    rw [(nI_eq (by omega) (by omega)).mp e']
    exact hb
  rw [e]
  exact rr_pc7 S hS (hb 0 (by omega)) (hb 1 (by omega)) (hb 2 (by omega))
theorem rr_fi_add {lo i f S m : Nat} {o b : Nat → Int32} (h : rr_fi lo i f S o b) (hf : f < 3) (hm : m < 3) (e : o ((lo + i) % 12) = nI m) (hb : S.testBit m = false) : rr_fi lo (i + 1) (f + 1) (S ||| 2 ^ m) o (upd b f (nI m)) := by
  obtain ⟨_, hS, ef, h1, h2, h3⟩ := h
  obtain ⟨n1, n2, n3⟩ := rr_pcn S hS m hm hb
  have hnew : ∀ q, q < f → b q ≠ nI m := by
    intro q hq e'
    obtain ⟨m', hm', e2, hb'⟩ := h1 q hq
    rw [e2] at e'
    rw [(nI_eq (by omega) (by omega)).mp e', hb] at hb'
    exact absurd hb' (by decide)
  refine ⟨by omega, n1, by rw [n2, ef], fun q hq => ?_, fun q q' hq hq' e' => ?_, fun j hj => ?_⟩
  · by_cases eq : q = f
    · rw [eq, pk_us]
      exact ⟨m, hm, rfl, n3⟩
    · rw [pk_un eq]
      obtain ⟨m', hm', e2, hb'⟩ := h1 q (by omega)
      exact ⟨m', hm', e2, rr_pck S hS m hm m' hm' hb'⟩
  · by_cases eq : q = f
    · by_cases eq' : q' = f
      · omega
      · rw [eq, pk_us, pk_un eq'] at e'
        exact absurd e'.symm (hnew q' (by omega))
    · by_cases eq' : q' = f
      · rw [eq', pk_us, pk_un eq] at e'
        exact absurd e' (hnew q (by omega))
      · rw [pk_un eq, pk_un eq'] at e'
        exact h2 q q' (by omega) (by omega) e'
  · by_cases ej : j = i
    · rw [ej]
      exact ⟨m, hm, e, n3⟩
    · obtain ⟨m', hm', e2, hb'⟩ := h3 j (by omega)
      exact ⟨m', hm', e2, rr_pck S hS m hm m' hm' hb'⟩
theorem rr_fi_skip {lo i f S m : Nat} {o b : Nat → Int32} (h : rr_fi lo i f S o b) (hm : m < 3) (e : o ((lo + i) % 12) = nI m) (hb : S.testBit m = true) : rr_fi lo (i + 1) f S o b := by
  obtain ⟨h0, hS, ef, h1, h2, h3⟩ := h
  refine ⟨h0, hS, ef, h1, h2, fun j hj => ?_⟩
  by_cases ej : j = i
  · rw [ej]
    exact ⟨m, hm, e, hb⟩
  · exact h3 j (by omega)
theorem rr_f75 {post : St2 → Prop} {lo : Nat} (hlo : lo ≤ 12) (hr : rr_ring a2) (H : ∀ (K : Nat → Nat) (b9 : Nat → Int32), rr_kp K b9 → post (fm, fw, 12, fa, fs, fv, ft, fg, fl, a1, a2, a3, a4, a5, a6, a7, a8, b9, a10, a11, a12)) : ∃ n, wX_findKeepers_75 post (nI lo) fm fw 12 fa fs fv ft fg fl n 0 0 0 a1 a2 a3 a4 a5 a6 a7 a8 a9 a10 a11 a12 := by
  refine pk_loop (σ := Nat × Nat × (Nat → Int32)) (fun n i s => wX_findKeepers_75 post (nI lo) fm fw 12 fa fs fv ft fg fl n (nI s.1) (nI s.2.1) (nI i) a1 a2 a3 a4 a5 a6 a7 a8 s.2.2 a10 a11 a12)
    (fun i s => rr_fi lo i s.1 s.2.1 a2 s.2.2) 12 0 (0, 0, a9) (by omega) rr_fi_0 ?_ ?_
  · intro n s h
    have e := rr_fi_12 hlo hr h
    refine pk_le 12 12 (fun _ => H _ s.2.2 (rr_fi_3 (lo := lo) (i := 12) (S := s.2.1) (o := a2) ?_)) (fun z => absurd z (by omega))
    rw [← e]
    exact h
  · intro n i s hi h hw
    obtain ⟨f, S, b⟩ := s
    have h' : rr_fi lo i f S a2 b := h
    have hf : f ≤ 3 := h'.1
    have hS : S < 8 := h'.2.1
    obtain ⟨m, hm, em⟩ := hr.1 ((lo + i) % 12) (by omega)
    have e : (nI lo + nI i) - (nI lo + nI i) / 12 * 12 = nI ((lo + i) % 12) := by
      rw [nI_add]
      exact pk_rem (d := 12) (by omega) (by omega) (by omega)
    have ea : a2 ((nI lo + nI i) - (nI lo + nI i) / 12 * 12).toNatClampNeg = nI m := by
      rw [e, nI_clamp (by omega), em]
    refine pk_le 12 i (fun z => absurd z (by omega)) (fun _ => pk_le 3 f (fun z => ?_) (fun z => ⟨by decide, pk_in ((lo + i) % 12) 24 (by omega) e, nm_r ea (br_c (fun y => nm_r (rr_or S hS m hm) ⟨pk_in f 3 z, nm_r (e' := upd b f (nI m)) ?_ (nm_r (nI_1 f) (nm_r (nI_1 i) ?_))⟩) (fun y => nm_r (nI_1 i) ?_))⟩))
    · have e3 : f = 3 := by omega
      rw [e3] at h'
      exact H _ b (rr_fi_3 h')
    · show upd b (nI f).toNatClampNeg (nI m).toInt8.toInt32 = upd b f (nI m)
      rw [nI_clamp (by omega), rr_b8 m hm]
    · exact hw (f + 1, S ||| 2 ^ m, upd b f (nI m)) (rr_fi_add h' z hm em ((rr_bit S hS m (by omega)).mp y))
    · exact hw (f, S, b) (rr_fi_skip h' hm em (rr_nf (fun x => y ((rr_bit S hS m (by omega)).mpr x))))
theorem rr_find {post : St2 → Prop} {k : Int32} (hr : rr_ring a2) (H : ∀ (K : Nat → Nat) (b9 : Nat → Int32), rr_kp K b9 → post (fm, fw, 12, fa, fs, fv, ft, fg, fl, a1, a2, a3, a4, a5, a6, a7, a8, b9, a10, a11, a12)) : wpX_findKeepers post (fm, fw, 12, fa, fs, fv, ft, fg, fl, a1, a2, a3, a4, a5, a6, a7, a8, a9, a10, a11, a12) k := by
  unfold wpX_findKeepers
  refine rr_mix (fun pt => ?_)
  refine pk_loop (σ := Nat × Nat) (fun n i s => wX_findKeepers_16 post pt fm fw 12 fa fs fv ft fg fl a1 a2 a3 a4 a5 a6 a7 a8 a9 a10 a11 a12 n (nI s.1) (nI s.2) (nI i)) (fun i s => s.1 ≤ s.2 ∧ s.2 ≤ 12) 6 0 (0, 12) (by omega) ⟨by decide, by decide⟩ ?_ ?_
  · intro n s h
    exact pk_le 6 6 (fun _ => rr_f75 (by omega) hr H) (fun z => absurd z (by omega))
  · intro n i s hi h hw
    obtain ⟨lo, hi'⟩ := s
    have h1 : lo ≤ hi' := h.1
    have h2 : hi' ≤ 12 := h.2
    have e : (nI lo + nI hi') / 2 = nI ((lo + hi') / 2) := by
      rw [nI_add]
      exact pk_div (d := 2) (by omega) (by omega) (by omega)
    exact pk_le 6 i (fun z => absurd z (by omega)) (fun _ => pk_le hi' lo (fun _ => rr_f75 (by omega) hr H) (fun z => ⟨by decide, nm_r e ⟨pk_in ((lo + hi') / 2) 24 (by omega), br_c (fun _ => nm_r (nI_1 i) (hw (lo, (lo + hi') / 2) ⟨by show lo ≤ (lo + hi') / 2; omega, by show (lo + hi') / 2 ≤ 12; omega⟩)) (fun _ => nm_r (nI_1 _) (nm_r (nI_1 i) (hw ((lo + hi') / 2 + 1, hi') ⟨by show (lo + hi') / 2 + 1 ≤ hi'; omega, h2⟩)))⟩⟩))
end
end
section
section
variable {fm fw fr fa fs fv ft fg fl : Int32} {a1 a2 a3 a4 a5 a6 a7 a8 a9 a10 a11 a12 : Nat → Int32}
/-- one cell: stamp t, value x, not taken -/
def rr_c (b3 b4 b5 : Nat → Int32) (j t : Nat) (x : Int32) : Prop := b3 j = nI t ∧ b4 j = x ∧ b5 j = 0
/-- the working set: all three, or one is away -/
def rr_w (w : Nat) : Prop := w = 7 ∨ w = 6 ∨ w = 5 ∨ w = 3
theorem rr_w8 {w : Nat} (h : rr_w w) : w < 8 := by
  rcases h with h | h | h | h <;> omega
def rr_t2 (w x y z : Nat) : Bool := (w.testBit x && w.testBit y) || (w.testBit x && w.testBit z) || (w.testBit y && w.testBit z)
theorem rr_k2a : ∀ x, x < 3 → ∀ y, y < 3 → ∀ z, z < 3 → (decide (x = y) || decide (x = z) || decide (y = z) || (rr_t2 7 x y z && rr_t2 6 x y z && rr_t2 5 x y z && rr_t2 3 x y z)) = true := by decide +kernel
theorem rr_k2 {w : Nat} {K : Nat → Nat} {b : Nat → Int32} (hw : rr_w w) (h : rr_kp K b) : rr_two (fun q => w.testBit (K q)) := by
  have k01 : K 0 ≠ K 1 := fun e => absurd (h.2 0 1 (by omega) (by omega) e) (by omega)
  have k02 : K 0 ≠ K 2 := fun e => absurd (h.2 0 2 (by omega) (by omega) e) (by omega)
  have k12 : K 1 ≠ K 2 := fun e => absurd (h.2 1 2 (by omega) (by omega) e) (by omega)
  have t := rr_k2a (K 0) (h.1 0 (by omega)).1 (K 1) (h.1 1 (by omega)).1 (K 2) (h.1 2 (by omega)).1
  rw [decide_eq_false k01, decide_eq_false k02, decide_eq_false k12, Bool.false_or, Bool.false_or, Bool.false_or] at t
  simp only [Bool.and_eq_true] at t
  show rr_t2 w (K 0) (K 1) (K 2) = true
  rcases hw with e | e | e | e
  · rw [e]; exact t.1.1.1
  · rw [e]; exact t.1.1.2
  · rw [e]; exact t.1.2
  · rw [e]; exact t.2
theorem rr_onto {K : Nat → Nat} {b : Nat → Int32} {m : Nat} (h : rr_kp K b) (hm : m < 3) : ∃ q, q < 3 ∧ K q = m := by
  have k01 : K 0 ≠ K 1 := fun e => absurd (h.2 0 1 (by omega) (by omega) e) (by omega)
  have k02 : K 0 ≠ K 2 := fun e => absurd (h.2 0 2 (by omega) (by omega) e) (by omega)
  have k12 : K 1 ≠ K 2 := fun e => absurd (h.2 1 2 (by omega) (by omega) e) (by omega)
  have l0 := (h.1 0 (by omega)).1
  have l1 := (h.1 1 (by omega)).1
  have l2 := (h.1 2 (by omega)).1
  have t : K 0 = m ∨ K 1 = m ∨ K 2 = m := by omega
  rcases t with t | t | t
  · exact ⟨0, by omega, t⟩
  · exact ⟨1, by omega, t⟩
  · exact ⟨2, by omega, t⟩
theorem rr_r31 {post : St2 → Prop} {J : Int32 → Int32 → Int32 → Int32 → Int32 → Int32 → Int32 → Int32 → Int32 → Int32 → (Nat → Int32) → (Nat → Int32) → (Nat → Int32) → (Nat → Int32) → (Nat → Int32) → (Nat → Int32) → (Nat → Int32) → (Nat → Int32) → (Nat → Int32) → (Nat → Int32) → (Nat → Int32) → (Nat → Int32) → Prop} {b : Nat → Bool} {K : Nat → Nat} {w k t : Nat} {x c x3 : Int32} (hw8 : w < 8) (hK : rr_kp K a9) (hb : ∀ q, q < 3 → b q = w.testBit (K q)) (h2 : rr_two b) (hk : k < 16) (ht : t < 1000) (hx : t = 0 → x = 0)
    (hc : ∀ m, m < 3 → w.testBit m = true → rr_c a3 a4 a5 (m * 16 + k) t x)
    (H : ∀ g, J (x3 + 1) fm (nI w) fr (nI (rr_m b 3)) (nI t) x 0 g 0 a1 a2 a3 a4 a5 a6 a7 a8 a9 a10 a11 a12) : ∃ n, wX_readNewest_31 post J c (nI k) x3 n 0 fm (nI w) fr 0 0 0 0 fg 0 a1 a2 a3 a4 a5 a6 a7 a8 a9 a10 a11 a12 := by
  refine pk_loop (σ := Int32 × Int32 × Int32 × Int32) (fun n i s => wX_readNewest_31 post J c (nI k) x3 n (nI i) fm (nI w) fr (nI (rr_m b i)) s.1 s.2.1 s.2.2.1 s.2.2.2 0 a1 a2 a3 a4 a5 a6 a7 a8 a9 a10 a11 a12)
    (fun i s => ((s.1 = nI 0 ∧ s.2.1 = 0 ∧ s.2.2.1 = 0) ∨ (s.1 = nI t ∧ s.2.1 = x ∧ s.2.2.1 = 0)) ∧ (rr_m b i ≠ 0 → s.1 = nI t ∧ s.2.1 = x ∧ s.2.2.1 = 0)) 3 0 (0, 0, 0, fg) (by omega) ⟨Or.inl ⟨rfl, rfl, rfl⟩, fun z => absurd rfl z⟩ ?_ ?_
  · intro n s h
    obtain ⟨s1, s2, s3, s4⟩ := s
    have h' := h.2 (rr_two_ne h2)
    dsimp only at h'
    obtain ⟨e1, e2, e3⟩ := h'
    subst e1 e2 e3
    exact pk_le 3 3 (fun _ => nm_e (H s4)) (fun z => absurd z (by omega))
  · intro n i s hi h hw
    obtain ⟨s1, s2, s3, s4⟩ := s
    dsimp only at h
    obtain ⟨hKi, e9⟩ := hK.1 i hi
    have ea : a9 (nI i).toNatClampNeg = nI (K i) := by rw [nI_clamp (by omega)]; exact e9
    refine pk_le 3 i (fun z => absurd z (by omega)) (fun _ => ⟨pk_in i 3 hi, nm_r ea ?_⟩)
    refine rr_wk hw8 (by omega) (fun z => br_t rfl (nm_r (nI_1 i) ?_)) (fun z => br_f (by decide) ?_)
    · have e : rr_m b (i + 1) = rr_m b i := rr_mf (by rw [hb i hi]; exact z)
      have hh := hw (s1, s2, s3, s4)
      dsimp only at hh
      rw [e] at hh
      exact hh h
    · have e : rr_m b (i + 1) = rr_m b i ||| 2 ^ i := rr_mt (by rw [hb i hi]; exact z)
      refine rr_has (rr_m_lt b (by omega)) (by omega) (fun _ => br_t rfl ?_) (fun y => absurd y (by rw [rr_m_free b hi]; decide))
      refine rr_ct (fun g1 => br_f (by decide) (rr_ct (fun g2 => br_f (by decide) (nm_r (rr_or _ (rr_m_lt b (by omega)) i hi) ?_))))
      obtain ⟨c3, c4, c5⟩ := hc (K i) hKi z
      refine rr_hear hKi hk ht c3 c4 c5 hx h.1 (nm_r (nI_1 i) ?_)
      have hh := hw (nI t, x, 0, g2)
      dsimp only at hh
      rw [e] at hh
      exact hh ⟨Or.inr ⟨rfl, rfl, rfl⟩, fun _ => ⟨rfl, rfl, rfl⟩⟩
theorem rr_r118 {post : St2 → Prop} {b : Nat → Bool} {K : Nat → Nat} {w k t : Nat} {x c : Int32} (hK : rr_kp K a9) (hb : ∀ q, q < 3 → b q = w.testBit (K q)) (hk : k < 16) (ht : t < 1000)
    (hc : ∀ m, m < 3 → w.testBit m = true → rr_c a3 a4 a5 (m * 16 + k) t x)
    (H : post (fm, nI w, fr, nI (rr_m b 3), nI t, fv, ft, fg, fl, a1, a2, a3, a4, a5, a6, a7, a8, a9, a10, a11, a12)) : ∃ n, wX_readNewest_118 post c (nI k) n 0 fm (nI w) fr (nI (rr_m b 3)) (nI t) fv ft fg fl a1 a2 a3 a4 a5 a6 a7 a8 a9 a10 a11 a12 := by
  refine pk_loop (σ := Unit) (fun n i _ => wX_readNewest_118 post c (nI k) n (nI i) fm (nI w) fr (nI (rr_m b 3)) (nI t) fv ft fg fl a1 a2 a3 a4 a5 a6 a7 a8 a9 a10 a11 a12) (fun _ _ => True) 3 0 () (by omega) trivial ?_ ?_
  · intro n s h
    exact pk_le 3 3 (fun _ => H) (fun z => absurd z (by omega))
  · intro n i s hi _ hw
    obtain ⟨hKi, e9⟩ := hK.1 i hi
    have ea : a9 (nI i).toNatClampNeg = nI (K i) := by rw [nI_clamp (by omega)]; exact e9
    refine pk_le 3 i (fun z => absurd z (by omega)) (fun _ => ⟨pk_in i 3 hi, nm_r ea ?_⟩)
    refine rr_has (rr_m_lt b (by omega)) (by omega) (fun _ => br_t rfl (nm_r (nI_1 i) (hw () trivial))) (fun y => br_f (by decide) ⟨pk_in (K i * 16 + k) 96 (by omega) (rr_cell _ _), br_t ?_ (nm_r (nI_1 i) (hw () trivial))⟩)
    rw [rr_m_bit b hi, hb i hi] at y
    rw [rr_cell, nI_clamp (by omega), (hc (K i) hKi y).1]
    exact nI_le (Nat.le_refl _) (by omega)
theorem rr_read {post : St2 → Prop} {w k t : Nat} {x c : Int32} (hw : rr_w w) (hr : rr_ring a2) (hk : k < 16) (ht : t < 1000) (hx : t = 0 → x = 0)
    (hc : ∀ m, m < 3 → w.testBit m = true → rr_c a3 a4 a5 (m * 16 + k) t x)
    (H : ∀ (K : Nat → Nat) (b9 : Nat → Int32) (a g : Int32), rr_kp K b9 → post (fm, nI w, 12, a, nI t, x, 0, g, 0, a1, a2, a3, a4, a5, a6, a7, a8, b9, a10, a11, a12)) : wpX_readNewest post (fm, nI w, 12, fa, fs, fv, ft, fg, 0, a1, a2, a3, a4, a5, a6, a7, a8, a9, a10, a11, a12) c (nI k) := by
  unfold wpX_readNewest
  refine rr_find hr (fun K b9 hK => ?_)
  have h2 := rr_k2 hw hK
  have hb : ∀ q, q < 3 → (fun q => w.testBit (K q)) q = w.testBit (K q) := fun _ _ => rfl
  have p6 := rr_pc6 _ (rr_m_lt (fun q => w.testBit (K q)) (Nat.le_refl 3))
  have p2 := rr_two_pc h2
  refine ⟨2, pk_le 80 0 (fun z => absurd z (by omega)) (fun _ => rr_ones (s := 0) (by omega) (pk_le 2 (rr_pc 0 6) (fun z => absurd z (by decide)) (fun _ => ?_) rfl rfl (by omega) (by decide)))⟩
  refine rr_r31 (rr_w8 hw) hK hb h2 hk ht hx hc (fun g => ?_)
  refine pk_le 80 1 (fun z => absurd z (by omega)) (fun _ => rr_ones (rr_m_lt _ (Nat.le_refl 3)) (pk_le 2 _ (fun _ => ?_) (fun z => absurd z (by omega)) rfl rfl (by omega) (by omega)))
  exact rr_r118 hK hb hk ht hc (H K b9 _ g hK)
end
end
section
section
variable {fm fw fr fa fs fv ft fg fl : Int32} {a1 a2 a3 a4 a5 a6 a7 a8 a9 a10 a11 a12 : Nat → Int32}
/-- the picture: every working machine has, under each key k, stamp T k, value V k, not taken -/
def rr_P (w : Nat) (T : Nat → Nat) (V : Nat → Int32) (b3 b4 b5 : Nat → Int32) : Prop := (∀ k, k < 16 → T k < 1000 ∧ (T k = 0 → V k = 0) ∧ rr_r (-9999) 9999 (V k) = true) ∧ ∀ m, m < 3 → w.testBit m = true → ∀ k, k < 16 → rr_c b3 b4 b5 (m * 16 + k) (T k) (V k)
def rr_u {α : Type} (f : Nat → α) (k : Nat) (x : α) : Nat → α := fun j => if j = k then x else f j
theorem rr_us {α : Type} {f : Nat → α} {k : Nat} {x : α} : rr_u f k x k = x := by
  unfold rr_u; rw [if_pos rfl]
theorem rr_un {α : Type} {f : Nat → α} {k j : Nat} {x : α} (h : j ≠ k) : rr_u f k x j = f j := by
  unfold rr_u; rw [if_neg h]
theorem rr_c_s {b3 b4 b5 : Nat → Int32} {j t : Nat} {x : Int32} : rr_c (upd b3 j (nI t)) (upd b4 j x) (upd b5 j 0) j t x := ⟨pk_us, pk_us, pk_us⟩
theorem rr_c_n {b3 b4 b5 : Nat → Int32} {j j' t : Nat} {x y3 y4 y5 : Int32} (h : j' ≠ j) (hc : rr_c b3 b4 b5 j' t x) : rr_c (upd b3 j y3) (upd b4 j y4) (upd b5 j y5) j' t x := by
  unfold rr_c
  rw [pk_un h, pk_un h, pk_un h]
  exact hc
/-- writing, i keepers told -/
def rr_mid (w : Nat) (K : Nat → Nat) (k i : Nat) (T : Nat → Nat) (V : Nat → Int32) (t : Nat) (v : Int32) (b3 b4 b5 : Nat → Int32) : Prop :=
  (∀ m, m < 3 → w.testBit m = true → ∀ k', k' < 16 → k' ≠ k → rr_c b3 b4 b5 (m * 16 + k') (T k') (V k')) ∧ (∀ q, q < 3 → w.testBit (K q) = true → q < i → rr_c b3 b4 b5 (K q * 16 + k) t v) ∧ (∀ q, q < 3 → w.testBit (K q) = true → i ≤ q → rr_c b3 b4 b5 (K q * 16 + k) (T k) (V k))
theorem rr_mid_0 {w k t : Nat} {K T : Nat → Nat} {V b b3 b4 b5 : Nat → Int32} {v : Int32} (hk : k < 16) (hK : rr_kp K b) (h : rr_P w T V b3 b4 b5) : rr_mid w K k 0 T V t v b3 b4 b5 :=
  ⟨fun m hm hw k' hk' _ => h.2 m hm hw k' hk', fun q _ _ z => absurd z (by omega), fun q hq hw _ => h.2 (K q) (hK.1 q hq).1 hw k hk⟩
theorem rr_mid_f {w k i t : Nat} {K T : Nat → Nat} {V b3 b4 b5 : Nat → Int32} {v : Int32} (hw : w.testBit (K i) = false) (h : rr_mid w K k i T V t v b3 b4 b5) : rr_mid w K k (i + 1) T V t v b3 b4 b5 := by
  obtain ⟨h1, h2, h3⟩ := h
  refine ⟨h1, fun q hq hwq z => ?_, fun q hq hwq z => h3 q hq hwq (by omega)⟩
  by_cases e : q = i
  · rw [e, hw] at hwq
    exact absurd hwq (by decide)
  · exact h2 q hq hwq (by omega)
theorem rr_mid_t {w k i t : Nat} {K T : Nat → Nat} {V b b3 b4 b5 : Nat → Int32} {v : Int32} (hk : k < 16) (hi : i < 3) (hK : rr_kp K b) (h : rr_mid w K k i T V t v b3 b4 b5) : rr_mid w K k (i + 1) T V t v (upd b3 (K i * 16 + k) (nI t)) (upd b4 (K i * 16 + k) v) (upd b5 (K i * 16 + k) 0) := by
  obtain ⟨h1, h2, h3⟩ := h
  have hd : ∀ q, q < 3 → q ≠ i → K q * 16 + k ≠ K i * 16 + k := by
    intro q hq hqi e
    have e' : K q = K i := by omega
    exact hqi (hK.2 q i hq hi e')
  refine ⟨fun m hm hwm k' hk' hkk => rr_c_n (by omega) (h1 m hm hwm k' hk' hkk), fun q hq hwq z => ?_, fun q hq hwq z => rr_c_n (hd q hq (by omega)) (h3 q hq hwq (by omega))⟩
  by_cases e : q = i
  · rw [e]
    exact rr_c_s
  · exact rr_c_n (hd q hq e) (h2 q hq hwq (by omega))
theorem rr_mid_3 {w k t : Nat} {K T : Nat → Nat} {V b b3 b4 b5 c3 c4 c5 : Nat → Int32} {v : Int32} (hK : rr_kp K b) (ht : t < 1000) (h0 : t ≠ 0) (hv : rr_r (-9999) 9999 v = true) (hP : rr_P w T V c3 c4 c5) (h : rr_mid w K k 3 T V t v b3 b4 b5) : rr_P w (rr_u T k t) (rr_u V k v) b3 b4 b5 := by
  obtain ⟨h1, h2, h3⟩ := h
  refine ⟨fun k' hk' => ?_, fun m hm hwm k' hk' => ?_⟩
  · by_cases e : k' = k
    · rw [e, rr_us, rr_us]
      exact ⟨ht, fun z => absurd z h0, hv⟩
    · rw [rr_un e, rr_un e]
      exact hP.1 k' hk'
  · by_cases e : k' = k
    · rw [e, rr_us, rr_us]
      obtain ⟨q, hq, eq⟩ := rr_onto hK hm
      rw [← eq] at hwm ⊢
      exact h2 q hq hwm hq
    · rw [rr_un e, rr_un e]
      exact h1 m hm hwm k' hk' e
theorem rr_w29 {post : St2 → Prop} {J : Int32 → Int32 → Int32 → Int32 → Int32 → Int32 → Int32 → Int32 → Int32 → Int32 → (Nat → Int32) → (Nat → Int32) → (Nat → Int32) → (Nat → Int32) → (Nat → Int32) → (Nat → Int32) → (Nat → Int32) → (Nat → Int32) → (Nat → Int32) → (Nat → Int32) → (Nat → Int32) → (Nat → Int32) → Prop} {b : Nat → Bool} {K T : Nat → Nat} {V : Nat → Int32} {w k t : Nat} {v c x3 x4 : Int32} (hw8 : w < 8) (hK : rr_kp K a9) (hb : ∀ q, q < 3 → b q = w.testBit (K q)) (hk : k < 16) (ht : t < 1000) (hT : T k < t)
    (hM : rr_mid w K k 0 T V t v a3 a4 a5)
    (H : ∀ (g : Int32) (b3 b4 b5 : Nat → Int32), rr_mid w K k 3 T V t v b3 b4 b5 → J (x4 + 1) fm (nI w) fr (nI (rr_m b 3)) (nI t) v 0 g 0 a1 a2 b3 b4 b5 a6 a7 a8 a9 a10 a11 a12) : ∃ n, wX_writeNewest_29 post J c (nI k) x3 x4 n 0 fm (nI w) fr 0 (nI t) v 0 fg 0 a1 a2 a3 a4 a5 a6 a7 a8 a9 a10 a11 a12 := by
  refine pk_loop (σ := Int32 × (Nat → Int32) × (Nat → Int32) × (Nat → Int32)) (fun n i s => wX_writeNewest_29 post J c (nI k) x3 x4 n (nI i) fm (nI w) fr (nI (rr_m b i)) (nI t) v 0 s.1 0 a1 a2 s.2.1 s.2.2.1 s.2.2.2 a6 a7 a8 a9 a10 a11 a12)
    (fun i s => rr_mid w K k i T V t v s.2.1 s.2.2.1 s.2.2.2) 3 0 (fg, a3, a4, a5) (by omega) hM ?_ ?_
  · intro n s h
    exact pk_le 3 3 (fun _ => nm_e (H s.1 _ _ _ h)) (fun z => absurd z (by omega))
  · intro n i s hi h hw
    obtain ⟨g0, b3, b4, b5⟩ := s
    dsimp only at h
    obtain ⟨hKi, e9⟩ := hK.1 i hi
    have ea : a9 (nI i).toNatClampNeg = nI (K i) := by rw [nI_clamp (by omega)]; exact e9
    refine pk_le 3 i (fun z => absurd z (by omega)) (fun _ => ⟨pk_in i 3 hi, nm_r ea ?_⟩)
    refine rr_wk hw8 (by omega) (fun z => br_t rfl (nm_r (nI_1 i) ?_)) (fun z => br_f (by decide) ?_)
    · have e : rr_m b (i + 1) = rr_m b i := rr_mf (by rw [hb i hi]; exact z)
      have hh := hw (g0, b3, b4, b5) (rr_mid_f z h)
      dsimp only at hh
      rw [e] at hh
      exact hh
    · have e : rr_m b (i + 1) = rr_m b i ||| 2 ^ i := rr_mt (by rw [hb i hi]; exact z)
      refine rr_has (rr_m_lt b (by omega)) (by omega) (fun _ => br_t rfl ?_) (fun y => absurd y (by rw [rr_m_free b hi]; decide))
      refine rr_ct (fun g1 => br_f (by decide) ?_)
      refine rr_store hKi hk (h.2.2 i hi z (Nat.le_refl i)).1 hT ht ?_
      refine rr_ct (fun g2 => br_f (by decide) (nm_r (rr_or _ (rr_m_lt b (by omega)) i hi) (nm_r (nI_1 i) ?_)))
      have hh := hw (g2, upd b3 (K i * 16 + k) (nI t), upd b4 (K i * 16 + k) v, upd b5 (K i * 16 + k) 0) (rr_mid_t hk hi hK h)
      dsimp only at hh
      rw [e] at hh
      exact hh
theorem rr_w121 {post : St2 → Prop} {K : Nat → Nat} {w k c : Nat} (hw8 : w < 8) (hK : rr_kp K a9) (hk : k < 16) (hc : c < 6)
    (H : ∀ b6 b7 b8 : Nat → Int32, post (fm, nI w, fr, fa, fs, fv, ft, fg, fl, a1, a2, a3, a4, a5, b6, b7, b8, a9, a10, a11, a12)) : ∃ n, wX_writeNewest_121 post (nI c) (nI k) n 0 fm (nI w) fr fa fs fv ft fg fl a1 a2 a3 a4 a5 a6 a7 a8 a9 a10 a11 a12 := by
  refine pk_loop (σ := (Nat → Int32) × (Nat → Int32) × (Nat → Int32)) (fun n i s => wX_writeNewest_121 post (nI c) (nI k) n (nI i) fm (nI w) fr fa fs fv ft fg fl a1 a2 a3 a4 a5 s.1 s.2.1 s.2.2 a9 a10 a11 a12) (fun _ _ => True) 3 0 (a6, a7, a8) (by omega) trivial ?_ ?_
  · intro n s _
    exact pk_le 3 3 (fun _ => H _ _ _) (fun z => absurd z (by omega))
  · intro n i s hi _ hw
    obtain ⟨b6, b7, b8⟩ := s
    obtain ⟨hKi, e9⟩ := hK.1 i hi
    have ea : a9 (nI i).toNatClampNeg = nI (K i) := by rw [nI_clamp (by omega)]; exact e9
    refine pk_le 3 i (fun z => absurd z (by omega)) (fun _ => ⟨pk_in i 3 hi, ?_⟩)
    rw [ea]
    exact rr_wk hw8 (by omega) (fun z => br_t rfl ⟨pk_in i 3 hi, rr_hint hc (by omega) hk (fun c6 c7 c8 => nm_r (nI_1 i) (hw (c6, c7, c8) trivial))⟩) (fun z => br_f (by decide) (nm_r (nI_1 i) (hw (b6, b7, b8) trivial)))
theorem rr_write {post : St2 → Prop} {K T : Nat → Nat} {V : Nat → Int32} {w k c t : Nat} {v : Int32} (hw : rr_w w) (hK : rr_kp K a9) (hk : k < 16) (hc : c < 6) (ht : t < 1000) (hT : T k < t) (hv : rr_r (-9999) 9999 v = true) (hP : rr_P w T V a3 a4 a5)
    (H : ∀ (a g : Int32) (b3 b4 b5 b6 b7 b8 : Nat → Int32), rr_P w (rr_u T k t) (rr_u V k v) b3 b4 b5 → post (fm, nI w, fr, a, nI t, v, 0, g, 0, a1, a2, b3, b4, b5, b6, b7, b8, a9, a10, a11, a12)) : wpX_writeNewest post (fm, nI w, fr, fa, nI t, v, 0, fg, 0, a1, a2, a3, a4, a5, a6, a7, a8, a9, a10, a11, a12) (nI c) (nI k) 2 := by
  have h2 := rr_k2 hw hK
  have hb : ∀ q, q < 3 → (fun q => w.testBit (K q)) q = w.testBit (K q) := fun _ _ => rfl
  have p6 := rr_pc6 _ (rr_m_lt (fun q => w.testBit (K q)) (Nat.le_refl 3))
  have p2 := rr_two_pc h2
  refine ⟨2, pk_le 80 0 (fun z => absurd z (by omega)) (fun _ => rr_ones (s := 0) (by omega) (pk_le 2 (rr_pc 0 6) (fun z => absurd z (by decide)) (fun _ => ?_) rfl rfl (by omega) (by decide)))⟩
  refine rr_w29 (rr_w8 hw) hK hb hk ht hT (rr_mid_0 hk hK hP) (fun g b3 b4 b5 hM => ?_)
  refine pk_le 80 1 (fun z => absurd z (by omega)) (fun _ => rr_ones (rr_m_lt _ (Nat.le_refl 3)) (pk_le 2 _ (fun _ => ?_) (fun z => absurd z (by omega)) rfl rfl (by omega) (by omega)))
  exact rr_w121 (rr_w8 hw) hK hk hc (fun b6 b7 b8 => H _ g b3 b4 b5 b6 b7 b8 (rr_mid_3 hK ht (by omega) hv hP hM))
theorem rr_chg {post : St2 → Prop} {K T : Nat → Nat} {V : Nat → Int32} {w k c : Nat} {v : Int32} (hw : rr_w w) (hK : rr_kp K a9) (hk : k < 16) (hc : c < 6) (ht : T k < 900) (hv : rr_r (-9999) 9999 v = true) (hP : rr_P w T V a3 a4 a5)
    (H : ∀ (a s x y g : Int32) (b3 b4 b5 b6 b7 b8 : Nat → Int32), rr_P w (rr_u T k ((T k / 8 + 1) * 8 + c)) (rr_u V k v) b3 b4 b5 → post (fm, nI w, fr, a, s, x, y, g, 0, a1, a2, b3, b4, b5, b6, b7, b8, a9, a10, a11, a12)) : wpX_change post (fm, nI w, fr, fa, nI (T k), fv, ft, fg, 0, a1, a2, a3, a4, a5, a6, a7, a8, a9, a10, a11, a12) (nI c) (nI k) v 0 := by
  have e : ((nI (T k) / 8) + 1) * 8 + nI c = nI ((T k / 8 + 1) * 8 + c) := by
    rw [show (8 : Int32) = nI 8 from rfl, pk_div (by omega) (by omega) (by omega), nI_1, pk_mul, nI_add]
  unfold wpX_change
  exact ⟨by decide, nm_r e ⟨by rfl, by rfl, rr_write hw hK hk hc (by omega) (by omega) hv hP (fun a g b3 b4 b5 b6 b7 b8 h => H a _ _ _ g b3 b4 b5 b6 b7 b8 h)⟩⟩
end
end
section
/-- the whole state matches the picture -/
def rr_S (w : Nat) (T : Nat → Nat) (V : Nat → Int32) (u : St2) : Prop := match u with
  | (fm, fw, fr, fa, fs, fv, ft, fg, fl, a1, a2, a3, a4, a5, a6, a7, a8, a9, a10, a11, a12) => fm = 7 ∧ fw = nI w ∧ fr = 12 ∧ fl = 0 ∧ rr_ring a2 ∧ rr_P w T V a3 a4 a5
section
variable {fm fw fr fa fs fv ft fg fl : Int32} {a1 a2 a3 a4 a5 a6 a7 a8 a9 a10 a11 a12 : Nat → Int32}
theorem rr_S_mk {w : Nat} {T : Nat → Nat} {V : Nat → Int32} (hr : rr_ring a2) (hP : rr_P w T V a3 a4 a5) : rr_S w T V (7, nI w, 12, fa, fs, fv, ft, fg, 0, a1, a2, a3, a4, a5, a6, a7, a8, a9, a10, a11, a12) :=
  And.intro rfl (And.intro rfl (And.intro rfl (And.intro rfl (And.intro hr hP))))
theorem rr_S_congr {w : Nat} {T T' : Nat → Nat} {V V' : Nat → Int32} {u : St2} (h : rr_S w T V u) (he : ∀ i, i < 16 → T i = T' i ∧ V i = V' i) : rr_S w T' V' u := by
  obtain ⟨fm, fw, fr, fa, fs, fv, ft, fg, fl, a1, a2, a3, a4, a5, a6, a7, a8, a9, a10, a11, a12⟩ := u
  obtain ⟨e1, e2, e3, e4, hr, hP⟩ := h
  refine And.intro e1 (And.intro e2 (And.intro e3 (And.intro e4 (And.intro hr (And.intro (fun k hk => ?_) (fun m hm hwm k hk => ?_))))))
  · rw [← (he k hk).1, ← (he k hk).2]
    exact hP.1 k hk
  · rw [← (he k hk).1, ← (he k hk).2]
    exact hP.2 m hm hwm k hk
theorem rr_P_dn {w w' : Nat} {T : Nat → Nat} {V b3 b4 b5 : Nat → Int32} (hs : ∀ m, m < 3 → w'.testBit m = true → w.testBit m = true) (h : rr_P w T V b3 b4 b5) : rr_P w' T V b3 b4 b5 :=
  ⟨h.1, fun m hm hwm k hk => h.2 m hm (hs m hm hwm) k hk⟩
theorem rr_rne {x : Int32} (h : rr_r (-9999) 9999 x = true) : x ≠ (-200000) := by
  intro e
  rw [e] at h
  revert h
  decide
theorem rr_put0 {post : Int32 → St2 → Prop} {w : Nat} {T : Nat → Nat} {V : Nat → Int32} {u : St2} {c k v : Int32} (hw : rr_w w) (hS : rr_S w T V u) (hT : ∀ i, i < 16 → T i < 900)
    (HC : (∀ m, m < 6 → c ≠ nI m) → post (-100000) u) (HK : (∀ m, m < 16 → k ≠ nI m) → post (-100000) u) (HN : rr_r (-9999) 9999 v = false → post (-100000) u)
    (HR : ∀ c' k', c' < 6 → k' < 16 → c = nI c' → k = nI k' → rr_r (-9999) 9999 v = true → w.testBit c' = false → post (-300000) u)
    (HW : ∀ c' k', c' < 6 → k' < 16 → c = nI c' → k = nI k' → rr_r (-9999) 9999 v = true → w.testBit c' = true → ∀ u', rr_S w (rr_u T k' ((T k' / 8 + 1) * 8 + c')) (rr_u V k' v) u' → post (if T k' = 0 then (-200000) else V k') u') : wpX_put post u c k v := by
  obtain ⟨fm, fw, fr, fa, fs, fv, ft, fg, fl, a1, a2, a3, a4, a5, a6, a7, a8, a9, a10, a11, a12⟩ := u
  obtain ⟨e1, e2, e3, e4, hr, hP⟩ := hS
  subst e1 e2 e3 e4
  unfold wpX_put
  refine rr_mach (fun h => br_t rfl (HC h)) (fun c' hc' ec => br_f (by decide) (rr_key (fun h => br_t rfl (HK h)) (fun k' hk' ek => br_f (by decide) (rr_num (fun h => br_t rfl (HN h)) (fun hv => br_f (by decide) ?_)))))
  subst ec ek
  refine rr_wk (rr_w8 hw) hc' (fun z => br_t rfl (HR c' k' hc' hk' rfl rfl hv z)) (fun z => br_f (by decide) ?_)
  refine rr_read hw hr hk' (hP.1 k' hk').1 (hP.1 k' hk').2.1 (fun m hm hwm => hP.2 m hm hwm k' hk') (fun K b9 a g hK => rr_rn (hP.1 k' hk').1 ?_)
  exact rr_chg hw hK hk' hc' (hT k' hk') hv hP (fun a s x y g b3 b4 b5 b6 b7 b8 h => HW c' k' hc' hk' rfl rfl hv z _ (rr_S_mk hr h))
theorem rr_a62 {post : Int32 → St2 → Prop} {K T : Nat → Nat} {V : Nat → Int32} {w k c : Nat} {z : Int32} (hw : rr_w w) (hr : rr_ring a2) (hK : rr_kp K a9) (hk : k < 16) (hc : c < 6) (ht : T k < 900) (hP : rr_P w T V a3 a4 a5)
    (HO : rr_r (-9999) 9999 z = false → ∀ u', rr_S w T V u' → post (-300000) u') (HW : rr_r (-9999) 9999 z = true → ∀ u', rr_S w (rr_u T k ((T k / 8 + 1) * 8 + c)) (rr_u V k z) u' → post z u') : wX_add_62 post (nI c) (nI k) z 7 (nI w) 12 fa (nI (T k)) fv ft fg 0 a1 a2 a3 a4 a5 a6 a7 a8 a9 a10 a11 a12 := by
  unfold wX_add_62
  exact rr_num (fun h => br_t rfl (HO h _ (rr_S_mk hr hP))) (fun h => br_f (by decide) (rr_chg hw hK hk hc ht h hP (fun a s x y g b3 b4 b5 b6 b7 b8 hP' => HW h _ (rr_S_mk hr hP'))))
theorem rr_add0 {post : Int32 → St2 → Prop} {w : Nat} {T : Nat → Nat} {V : Nat → Int32} {u : St2} {c k d : Int32} (hw : rr_w w) (hS : rr_S w T V u) (hT : ∀ i, i < 16 → T i < 900)
    (HC : (∀ m, m < 6 → c ≠ nI m) → post (-100000) u) (HK : (∀ m, m < 16 → k ≠ nI m) → post (-100000) u) (HN : rr_r (-9999) 9999 d = false → post (-100000) u)
    (HR : ∀ c' k', c' < 6 → k' < 16 → c = nI c' → k = nI k' → rr_r (-9999) 9999 d = true → w.testBit c' = false → post (-300000) u)
    (HO : ∀ c' k', c' < 6 → k' < 16 → c = nI c' → k = nI k' → rr_r (-9999) 9999 d = true → w.testBit c' = true → rr_r (-9999) 9999 (if T k' = 0 then d else V k' + d) = false → ∀ u', rr_S w T V u' → post (-300000) u')
    (HW : ∀ c' k', c' < 6 → k' < 16 → c = nI c' → k = nI k' → rr_r (-9999) 9999 d = true → w.testBit c' = true → rr_r (-9999) 9999 (if T k' = 0 then d else V k' + d) = true → ∀ u', rr_S w (rr_u T k' ((T k' / 8 + 1) * 8 + c')) (rr_u V k' (if T k' = 0 then d else V k' + d)) u' → post (if T k' = 0 then d else V k' + d) u') : wpX_add post u c k d := by
  obtain ⟨fm, fw, fr, fa, fs, fv, ft, fg, fl, a1, a2, a3, a4, a5, a6, a7, a8, a9, a10, a11, a12⟩ := u
  obtain ⟨e1, e2, e3, e4, hr, hP⟩ := hS
  subst e1 e2 e3 e4
  unfold wpX_add
  refine rr_mach (fun h => br_t rfl (HC h)) (fun c' hc' ec => br_f (by decide) (rr_key (fun h => br_t rfl (HK h)) (fun k' hk' ek => br_f (by decide) (rr_num (fun h => br_t rfl (HN h)) (fun hv => br_f (by decide) ?_)))))
  subst ec ek
  refine rr_wk (rr_w8 hw) hc' (fun z => br_t rfl (HR c' k' hc' hk' rfl rfl hv z)) (fun z => br_f (by decide) ?_)
  refine rr_read hw hr hk' (hP.1 k' hk').1 (hP.1 k' hk').2.1 (fun m hm hwm => hP.2 m hm hwm k' hk') (fun K b9 a g hK => rr_rn (hP.1 k' hk').1 ?_)
  have ho := HO c' k' hc' hk' rfl rfl hv z
  have hW := HW c' k' hc' hk' rfl rfl hv z
  by_cases e : T k' = 0
  · simp only [if_pos e] at ho hW
    rw [if_pos e]
    exact br_t rfl (rr_a62 hw hr hK hk' hc' (hT k' hk') hP ho hW)
  · simp only [if_neg e] at ho hW
    rw [if_neg e]
    exact br_f (rr_rne (hP.1 k' hk').2.2) (rr_a62 hw hr hK hk' hc' (hT k' hk') hP ho hW)
theorem rr_dnb : ∀ m, m < 3 → (7 : Int32) &&& (((1 : Int32) <<< (nI m &&& 31)) ^^^ (-1)) = nI (7 - 2 ^ m) := by decide +kernel
theorem rr_dns : ∀ m, m < 3 → ∀ q, q < 3 → (7 - 2 ^ m).testBit q = true → (7 : Nat).testBit q = true := by decide +kernel
theorem rr_down0 {post : Int32 → St2 → Prop} {T : Nat → Nat} {V : Nat → Int32} {u : St2} {m : Int32} (hS : rr_S 7 T V u)
    (H0 : (∀ m', m' < 3 → m ≠ nI m') → post 0 u) (H1 : ∀ m', m' < 3 → m = nI m' → ∀ u', rr_S (7 - 2 ^ m') T V u' → post 1 u') : wpX_down post u m := by
  obtain ⟨fm, fw, fr, fa, fs, fv, ft, fg, fl, a1, a2, a3, a4, a5, a6, a7, a8, a9, a10, a11, a12⟩ := u
  obtain ⟨e1, e2, e3, e4, hr, hP⟩ := hS
  subst e1 e2 e3 e4
  unfold wpX_down
  refine rr_wkg (w := 7) (by decide) (fun h => br_t rfl (H0 (fun m' hm' e => ?_))) (fun m' hm' e hb => br_f (by decide) (br_t rfl ?_))
  · have hb := h m' (by omega) e
    rw [rr_7b m' (by omega), decide_eq_true hm'] at hb
    exact absurd hb (by decide)
  · rw [rr_7b m' hm'] at hb
    have h3 := of_decide_eq_true hb
    rw [e]
    exact nm_r (rr_dnb m' h3) (H1 m' h3 e _ (rr_S_mk hr (rr_P_dn (rr_dns m' h3) hP)))
theorem rr_get0 {post : Int32 → St2 → Prop} {w : Nat} {T : Nat → Nat} {V : Nat → Int32} {u : St2} {j : Int32} (hw : rr_w w) (hS : rr_S w T V u)
    (HB : (∀ m, m < 16 → j ≠ nI m) → post (-100000) u) (HR : ∀ k', k' < 16 → j = nI k' → w.testBit 0 = false → post (-300000) u)
    (HW : ∀ k', k' < 16 → j = nI k' → w.testBit 0 = true → ∀ u', rr_S w T V u' → post (if T k' = 0 then (-200000) else V k') u') : wpX_get post u 0 j := by
  obtain ⟨fm, fw, fr, fa, fs, fv, ft, fg, fl, a1, a2, a3, a4, a5, a6, a7, a8, a9, a10, a11, a12⟩ := u
  obtain ⟨e1, e2, e3, e4, hr, hP⟩ := hS
  subst e1 e2 e3 e4
  unfold wpX_get
  refine rr_mach (fun h => (h 0 (by omega) rfl).elim) (fun c' hc' ec => br_f (by decide) (rr_key (fun h => br_t rfl (HB h)) (fun k' hk' ek => br_f (by decide) ?_)))
  subst ek
  refine rr_wk (m := 0) (rr_w8 hw) (by omega) (fun z => br_t rfl (HR k' hk' rfl z)) (fun z => br_f (by decide) ?_)
  exact rr_read hw hr hk' (hP.1 k' hk').1 (hP.1 k' hk').2.1 (fun m hm hwm => hP.2 m hm hwm k' hk') (fun K b9 a g hK => rr_rn (hP.1 k' hk').1 (HW k' hk' rfl z _ (rr_S_mk hr hP)))
theorem rr_no0 {post : Int32 → St2 → Prop} {w k : Nat} {T : Nat → Nat} {V : Nat → Int32} {u : St2} (hw : rr_w w) (hS : rr_S w T V u) (hk : k < 16) (H : ∀ u', rr_S w T V u' → post (if T k = 0 then (-200000) else V k) u') : wpX_numberOf post u (nI k) := by
  obtain ⟨fm, fw, fr, fa, fs, fv, ft, fg, fl, a1, a2, a3, a4, a5, a6, a7, a8, a9, a10, a11, a12⟩ := u
  obtain ⟨e1, e2, e3, e4, hr, hP⟩ := hS
  subst e1 e2 e3 e4
  unfold wpX_numberOf
  refine rr_lead (rr_w8 hw) (fun r => ?_)
  exact rr_read hw hr hk (hP.1 k hk).1 (hP.1 k hk).2.1 (fun m hm hwm => hP.2 m hm hwm k hk) (fun K b9 a g hK => rr_rn (hP.1 k hk).1 (H _ (rr_S_mk hr hP)))
theorem rr_nk {post : Int32 → St2 → Prop} {w i0 : Nat} {T : Nat → Nat} {V : Nat → Int32} (hw : rr_w w) (hi0 : i0 ≤ 16) (hS : rr_S w T V (fm, fw, fr, fa, fs, fv, ft, fg, fl, a1, a2, a3, a4, a5, a6, a7, a8, a9, a10, a11, a12))
    (Hf : ∀ i, i < 16 → i0 ≤ i → T i ≠ 0 → (∀ j, i0 ≤ j → j < i → T j = 0) → ∀ u', rr_S w T V u' → post (nI i) u') (Hn : (∀ i, i0 ≤ i → i < 16 → T i = 0) → ∀ u', rr_S w T V u' → post (-200000) u') : ∃ n, wX_nextKey_10 post n (nI i0) fm fw fr fa fs fv ft fg fl a1 a2 a3 a4 a5 a6 a7 a8 a9 a10 a11 a12 := by
  refine pk_loop (σ := St2) (fun n i u => wX_nextKey_10 post n (nI i) u.1 u.2.1 u.2.2.1 u.2.2.2.1 u.2.2.2.2.1 u.2.2.2.2.2.1 u.2.2.2.2.2.2.1 u.2.2.2.2.2.2.2.1 u.2.2.2.2.2.2.2.2.1 u.2.2.2.2.2.2.2.2.2.1 u.2.2.2.2.2.2.2.2.2.2.1 u.2.2.2.2.2.2.2.2.2.2.2.1 u.2.2.2.2.2.2.2.2.2.2.2.2.1 u.2.2.2.2.2.2.2.2.2.2.2.2.2.1 u.2.2.2.2.2.2.2.2.2.2.2.2.2.2.1 u.2.2.2.2.2.2.2.2.2.2.2.2.2.2.2.1 u.2.2.2.2.2.2.2.2.2.2.2.2.2.2.2.2.1 u.2.2.2.2.2.2.2.2.2.2.2.2.2.2.2.2.2.1 u.2.2.2.2.2.2.2.2.2.2.2.2.2.2.2.2.2.2.1 u.2.2.2.2.2.2.2.2.2.2.2.2.2.2.2.2.2.2.2.1 u.2.2.2.2.2.2.2.2.2.2.2.2.2.2.2.2.2.2.2.2) (fun i u => rr_S w T V u ∧ i0 ≤ i ∧ ∀ j, i0 ≤ j → j < i → T j = 0) 16 i0 (fm, fw, fr, fa, fs, fv, ft, fg, fl, a1, a2, a3, a4, a5, a6, a7, a8, a9, a10, a11, a12) hi0 ⟨hS, Nat.le_refl _, fun j h1 h2 => absurd h1 (by omega)⟩ ?_ ?_
  · intro n u h
    exact pk_le 16 16 (fun _ => Hn (fun i h1 h2 => h.2.2 i h1 h2) u h.1) (fun z => absurd z (by omega))
  · intro n i u hi h hw'
    obtain ⟨hS', h1, h2⟩ := h
    refine pk_le 16 i (fun z => absurd z (by omega)) (fun _ => rr_no0 hw (u := u) hS' hi (fun u' hu => ?_))
    have hP : rr_r (-9999) 9999 (V i) = true := by
      obtain ⟨fm, fw, fr, fa, fs, fv, ft, fg, fl, a1, a2, a3, a4, a5, a6, a7, a8, a9, a10, a11, a12⟩ := u'
      exact (hu.2.2.2.2.2.1 i hi).2.2
    have t := hw' u'
    obtain ⟨fm, fw, fr, fa, fs, fv, ft, fg, fl, a1, a2, a3, a4, a5, a6, a7, a8, a9, a10, a11, a12⟩ := u'
    by_cases e : T i = 0
    · rw [if_pos e]
      refine br_t rfl (nm_r (nI_1 i) (t ⟨hu, by omega, fun j hj hji => ?_⟩))
      by_cases e' : j = i
      · rw [e']
        exact e
      · exact h2 j hj (by omega)
    · rw [if_neg e]
      exact br_f (rr_rne hP) (Hf i hi h1 e h2 _ hu)
theorem rr_nk1 {post : Int32 → St2 → Prop} {w : Nat} {T : Nat → Nat} {V : Nat → Int32} {u : St2} {p : Int32} (hw : rr_w w) (hS : rr_S w T V u)
    (Hf : ∀ i, i < 16 → ¬ nI i < p → T i ≠ 0 → (∀ j, j < i → ¬ nI j < p → T j = 0) → ∀ u', rr_S w T V u' → post (nI i) u') (Hn : (∀ i, i < 16 → ¬ nI i < p → T i = 0) → ∀ u', rr_S w T V u' → post (-200000) u') : wpX_nextKey post u p := by
  obtain ⟨fm, fw, fr, fa, fs, fv, ft, fg, fl, a1, a2, a3, a4, a5, a6, a7, a8, a9, a10, a11, a12⟩ := u
  refine br_c (fun h => ?_) (fun h => ?_)
  · obtain ⟨j, hj, e⟩ := nI_of (Int32.not_lt.mpr h)
    subst e
    by_cases h16 : j ≤ 16
    · refine rr_nk hw h16 hS (fun i hi h1 h2 h3 => Hf i hi (nI_nlt h1 (by omega)) h2 (fun q hq hqj => h3 q ?_ hq)) (fun h1 => Hn (fun i hi hij => h1 i ?_ hi))
      · rcases Nat.lt_or_ge q j with z | z
        · exact absurd (nI_lt z (by omega)) hqj
        · exact z
      · rcases Nat.lt_or_ge i j with z | z
        · exact absurd (nI_lt z (by omega)) hij
        · exact z
    · exact ⟨1, br_t (nI_le (a := 16) (by omega) hj) (Hn (fun i hi hij => absurd (nI_lt (by omega) hj) hij) _ hS)⟩
  · have hp : p < 0 := Int32.not_le.mp h
    have hn : ∀ i, i < 16 → ¬ nI i < p := fun i hi z => nI_pos (n := i) (by omega) (Int32.lt_trans z hp)
    exact rr_nk (i0 := 0) hw (by omega) hS (fun i hi h1 h2 h3 => Hf i hi (hn i hi) h2 (fun q hq _ => h3 q (by omega) hq)) (fun h1 => Hn (fun i hi _ => h1 i (by omega) hi))
theorem rr_ch0 {post : Int32 → St2 → Prop} {w : Nat} {T : Nat → Nat} {V : Nat → Int32} {u : St2} {k : Int32} (hw : rr_w w) (hS : rr_S w T V u)
    (HB : (∀ m, m < 16 → k ≠ nI m) → post (-100000) u) (HW : ∀ k', k' < 16 → k = nI k' → ∀ u', rr_S w T V u' → post (nI (T k' / 8)) u') : wpX_changes post u k := by
  obtain ⟨fm, fw, fr, fa, fs, fv, ft, fg, fl, a1, a2, a3, a4, a5, a6, a7, a8, a9, a10, a11, a12⟩ := u
  obtain ⟨e1, e2, e3, e4, hr, hP⟩ := hS
  subst e1 e2 e3 e4
  unfold wpX_changes
  refine rr_key (fun h => br_t rfl (HB h)) (fun k' hk' ek => br_f (by decide) (rr_lead (rr_w8 hw) (fun r => ?_)))
  subst ek
  have ht := (hP.1 k' hk').1
  have e : nI (T k') / 8 = nI (T k' / 8) := pk_div (d := 8) (by omega) (by omega) (by omega)
  refine rr_read hw hr hk' ht (hP.1 k' hk').2.1 (fun m hm hwm => hP.2 m hm hwm k' hk') (fun K b9 a g hK => ⟨by decide, ?_⟩)
  rw [e]
  exact HW k' hk' rfl _ (rr_S_mk hr hP)
end
end
section
/-! the answers, by formula -/
theorem rr_r5 : ∀ m, m < 6 → rr_r 0 5 (nI m) = true := by decide +kernel
theorem rr_r15 : ∀ m, m < 16 → rr_r 0 15 (nI m) = true := by decide +kernel
theorem rr_r2 : ∀ m, m < 6 → rr_r 0 2 (nI m) = decide (m < 3) := by decide +kernel
theorem rr_rF {n : Nat} {p : Int32} (hn : n < 2 ^ 31) (h : ∀ m, m < n + 1 → p ≠ nI m) : rr_r 0 (nI n) p = false := by
  unfold rr_r
  by_cases h0 : p < 0
  · rw [decide_eq_true h0]; rfl
  · by_cases h1 : nI n < p
    · rw [decide_eq_true h1, Bool.not_true, Bool.and_false]
    · obtain ⟨j, hj, e⟩ := nI_of h0
      rw [e] at h1
      exact absurd e (h j (by
        rcases Nat.lt_or_ge n j with z | z
        · exact absurd (nI_lt z hj) h1
        · omega))
theorem rr_r5F {p : Int32} (h : ∀ m, m < 6 → p ≠ nI m) : rr_r 0 5 p = false := rr_rF (n := 5) (by omega) h
theorem rr_r15F {p : Int32} (h : ∀ m, m < 16 → p ≠ nI m) : rr_r 0 15 p = false := rr_rF (n := 15) (by omega) h
theorem rr_r2F {p : Int32} (h : ∀ m, m < 3 → p ≠ nI m) : rr_r 0 2 p = false := rr_rF (n := 2) (by omega) h
theorem rr_r2T {p : Int32} (h : rr_r 0 2 p = true) : ∃ m, m < 3 ∧ p = nI m := by
  unfold rr_r at h
  simp only [Bool.and_eq_true, Bool.not_eq_true', decide_eq_false_iff_not] at h
  obtain ⟨j, hj, e⟩ := nI_of h.1
  refine ⟨j, ?_, e⟩
  have h1 := h.2
  rw [e] at h1
  rcases Nat.lt_or_ge 2 j with z | z
  · exact absurd (nI_lt (a := 2) z hj) h1
  · omega
def rr_f (b : Bool) : Int32 := if b = true then 1 else 0
def rr_W (c k v : Int32) : Bool := rr_r 0 2 c && rr_r 0 15 k && rr_r (-9999) 9999 v
def rr_works (c m : Int32) : Bool := rr_r 0 2 c && !(rr_r 0 2 m && decide (c = m))
def rr_adds (c k d : Int32) : Bool := rr_r 0 5 c && rr_r 0 15 k && rr_r (-9999) 9999 d
def rr_made (c k v d : Int32) : Int32 := if rr_W c k v = true then v + d else d
def rr_D (c k v d m : Int32) : Bool := rr_adds c k d && rr_works c m && rr_r (-9999) 9999 (rr_made c k v d)
def rr_H (c k v d m : Int32) : Bool := rr_W c k v || rr_D c k v d m
def rr_due (c k v d m : Int32) : Int32 := if rr_D c k v d m = true then rr_made c k v d else v
def rr_o1 (c k v : Int32) : Int32 := if (rr_r 0 5 c && rr_r 0 15 k && rr_r (-9999) 9999 v) = true then (if rr_r 0 2 c = true then (-200000) else (-300000)) else (-100000)
def rr_o3 (c k v d m : Int32) : Int32 := if rr_adds c k d = true then (if rr_D c k v d m = true then rr_made c k v d else (-300000)) else (-100000)
def rr_o4 (c k v d m j : Int32) : Int32 := if rr_r 0 15 j = true then (if m = 0 then (-300000) else if (rr_H c k v d m && decide (j = k)) = true then rr_due c k v d m else (-200000)) else (-100000)
def rr_o5 (c k v d m j : Int32) : Int32 := if (rr_H c k v d m && !decide (k < j)) = true then k else (-200000)
def rr_o6 (c k v d m : Int32) : Int32 := if rr_r 0 15 k = true then rr_f (rr_W c k v) + rr_f (rr_D c k v d m) else (-100000)
/-- stamps and values after the writes: W a put, D an add -/
def rr_TT (W D : Bool) (c k : Int32) (i : Nat) : Nat := if (decide (k = nI i) && (W || D)) = true then 8 * ((if W = true then 1 else 0) + (if D = true then 1 else 0)) + c.toNatClampNeg else 0
def rr_VV (h : Bool) (k x : Int32) (i : Nat) : Int32 := if (decide (k = nI i) && h) = true then x else 0
def rr_w2 (m : Int32) : Nat := if rr_r 0 2 m = true then 7 - 2 ^ m.toNatClampNeg else 7
theorem rr_eqk {a b : Nat} (ha : a < 16) (hb : b < 16) : decide (nI a = nI b) = decide (b = a) := by
  by_cases e : b = a
  · rw [e, decide_eq_true rfl, decide_eq_true rfl]
  · rw [decide_eq_false e, decide_eq_false]
    intro z
    exact e ((nI_eq (by omega) (by omega)).mp z).symm
theorem rr_put1 {post : Int32 → St2 → Prop} {u : St2} {c k v : Int32} (hS : rr_S 7 (fun _ => 0) (fun _ => 0) u)
    (H : ∀ u', rr_S 7 (rr_TT (rr_W c k v) false c k) (rr_VV (rr_W c k v) k v) u' → post (rr_o1 c k v) u') : wpX_put post u c k v := by
  have hF : rr_W c k v = false → post (rr_o1 c k v) u := by
    intro hW
    refine H u (rr_S_congr hS (fun i hi => ?_))
    rw [hW]
    unfold rr_TT rr_VV
    simp
  refine rr_put0 (Or.inl rfl) hS (fun _ _ => by decide) (fun h => ?_) (fun h => ?_) (fun h => ?_) ?_ ?_
  · have e1 := rr_r5F h
    have e2 := rr_r2F (fun m hm => h m (by omega))
    have t := hF (by unfold rr_W; rw [e2]; rfl)
    unfold rr_o1 at t
    rw [e1] at t
    exact t
  · have e1 := rr_r15F h
    have t := hF (by unfold rr_W; rw [e1]; simp)
    unfold rr_o1 at t
    rw [e1] at t
    simpa using t
  · have t := hF (by unfold rr_W; rw [h]; simp)
    unfold rr_o1 at t
    rw [h] at t
    simpa using t
  · intro c' k' hc' hk' ec ek hv hb
    rw [rr_7b c' hc'] at hb
    have e2 : rr_r 0 2 c = false := by rw [ec, rr_r2 c' hc']; exact hb
    have t := hF (by unfold rr_W; rw [e2]; rfl)
    unfold rr_o1 at t
    rw [e2, hv, ec, rr_r5 c' hc', ek, rr_r15 k' hk'] at t
    exact t
  · intro c' k' hc' hk' ec ek hv hb u' hu
    rw [rr_7b c' hc'] at hb
    have h3 := of_decide_eq_true hb
    have e2 : rr_r 0 2 c = true := by rw [ec, rr_r2 c' hc']; exact hb
    have eW : rr_W c k v = true := by
      unfold rr_W; rw [e2, hv, ek, rr_r15 k' hk']; rfl
    have t := H u' (rr_S_congr hu (fun i hi => ?_))
    · unfold rr_o1 at t
      rw [e2, hv, ec, rr_r5 c' hc', ek, rr_r15 k' hk'] at t
      exact t
    · rw [eW]
      unfold rr_TT rr_VV rr_u
      rw [ek, rr_eqk hk' hi, ec, nI_clamp (by omega)]
      by_cases e : i = k'
      · rw [if_pos e, if_pos e, decide_eq_true e]
        exact ⟨by simp, by simp⟩
      · rw [if_neg e, if_neg e, decide_eq_false e]
        exact ⟨by simp, by simp⟩
theorem rr_down1 {post : Int32 → St2 → Prop} {T : Nat → Nat} {V : Nat → Int32} {u : St2} {m : Int32} (hS : rr_S 7 T V u)
    (H : ∀ u', rr_S (rr_w2 m) T V u' → post (rr_f (rr_r 0 2 m)) u') : wpX_down post u m := by
  refine rr_down0 hS (fun h => ?_) (fun m' hm' e u' hu => ?_)
  · have t := H u
    unfold rr_w2 at t
    rw [rr_r2F h] at t
    exact t hS
  · have t := H u'
    unfold rr_w2 at t
    rw [e, rr_r2 m' (by omega), decide_eq_true hm', nI_clamp (by omega)] at t
    exact t hu
theorem rr_w2w (m : Int32) : rr_w (rr_w2 m) := by
  unfold rr_w2
  cases e : rr_r 0 2 m
  · exact Or.inl rfl
  · obtain ⟨m', hm', em⟩ := rr_r2T e
    rw [em, nI_clamp (by omega)]
    have h : m' = 0 ∨ m' = 1 ∨ m' = 2 := by omega
    rcases h with h | h | h
    · rw [h]; exact Or.inr (Or.inl rfl)
    · rw [h]; exact Or.inr (Or.inr (Or.inl rfl))
    · rw [h]; exact Or.inr (Or.inr (Or.inr rfl))
theorem rr_w2a : ∀ m, m < 3 → ∀ c, c < 6 → (7 - 2 ^ m).testBit c = (rr_r 0 2 (nI c) && !(true && decide (nI c = nI m))) := by decide +kernel
theorem rr_w2b (m : Int32) {c : Nat} (hc : c < 6) : (rr_w2 m).testBit c = rr_works (nI c) m := by
  unfold rr_w2 rr_works
  cases e : rr_r 0 2 m
  · rw [rr_r2 c hc, Bool.false_and, Bool.not_false, Bool.and_true]
    exact rr_7b c hc
  · obtain ⟨m', hm', em⟩ := rr_r2T e
    rw [em, nI_clamp (by omega)]
    exact rr_w2a m' hm' c hc
theorem rr_add1 {post : Int32 → St2 → Prop} {u : St2} {c k v d m : Int32} (hS : rr_S (rr_w2 m) (rr_TT (rr_W c k v) false c k) (rr_VV (rr_W c k v) k v) u)
    (H : ∀ u', rr_S (rr_w2 m) (rr_TT (rr_W c k v) (rr_D c k v d m) c k) (rr_VV (rr_H c k v d m) k (rr_due c k v d m)) u' → post (rr_o3 c k v d m) u') : wpX_add post u c k d := by
  have hWc : rr_W c k v = true → c.toNatClampNeg < 3 := by
    intro h
    unfold rr_W at h
    simp only [Bool.and_eq_true] at h
    obtain ⟨c', hc', e⟩ := rr_r2T h.1.1
    rw [e, nI_clamp (by omega)]
    exact hc'
  have hT : ∀ i, i < 16 → rr_TT (rr_W c k v) false c k i < 900 := by
    intro i hi
    unfold rr_TT
    cases eW : rr_W c k v
    · simp
    · have h3 := hWc eW
      by_cases ek : k = nI i
      · simp only [decide_eq_true ek]
        simp
        omega
      · simp only [decide_eq_false ek]
        simp
  have hF : rr_D c k v d m = false → ∀ u', rr_S (rr_w2 m) (rr_TT (rr_W c k v) false c k) (rr_VV (rr_W c k v) k v) u' → post (if rr_adds c k d = true then (-300000) else (-100000)) u' := by
    intro hD u' hu
    have t := H u'
    unfold rr_H rr_due rr_o3 at t
    rw [hD, Bool.or_false] at t
    exact t hu
  have hTk : ∀ k', k' < 16 → k = nI k' → ((rr_TT (rr_W c k v) false c k k' = 0) ↔ rr_W c k v = false) := by
    intro k' hk' ek
    unfold rr_TT
    rw [decide_eq_true ek]
    cases rr_W c k v
    · simp
    · simp
  have hM : ∀ k', k' < 16 → k = nI k' → (if rr_TT (rr_W c k v) false c k k' = 0 then d else rr_VV (rr_W c k v) k v k' + d) = rr_made c k v d := by
    intro k' hk' ek
    have q := hTk k' hk' ek
    unfold rr_made
    cases eW : rr_W c k v
    · rw [eW] at q
      rw [if_pos (q.mpr rfl)]
      rfl
    · rw [eW] at q
      rw [if_neg (fun z => absurd (q.mp z) (by decide))]
      unfold rr_VV
      rw [decide_eq_true ek]
      rfl
  refine rr_add0 (rr_w2w m) hS hT (fun h => ?_) (fun h => ?_) (fun h => ?_) ?_ ?_ ?_
  · have e1 : rr_adds c k d = false := by unfold rr_adds; rw [rr_r5F h]; rfl
    have t := hF (by unfold rr_D; rw [e1]; rfl) u hS
    rw [e1] at t
    exact t
  · have e1 : rr_adds c k d = false := by unfold rr_adds; rw [rr_r15F h]; simp
    have t := hF (by unfold rr_D; rw [e1]; rfl) u hS
    rw [e1] at t
    exact t
  · have e1 : rr_adds c k d = false := by unfold rr_adds; rw [h]; simp
    have t := hF (by unfold rr_D; rw [e1]; rfl) u hS
    rw [e1] at t
    exact t
  · intro c' k' hc' hk' ec ek hd hb
    have e1 : rr_adds c k d = true := by unfold rr_adds; rw [ec, rr_r5 c' hc', ek, rr_r15 k' hk', hd]; rfl
    rw [rr_w2b m hc', ← ec] at hb
    have t := hF (by unfold rr_D; rw [e1, hb]; rfl) u hS
    rw [e1] at t
    exact t
  · intro c' k' hc' hk' ec ek hd hb hn u' hu
    have e1 : rr_adds c k d = true := by unfold rr_adds; rw [ec, rr_r5 c' hc', ek, rr_r15 k' hk', hd]; rfl
    rw [hM k' hk' ek] at hn
    have t := hF (by unfold rr_D; rw [hn]; simp) u' hu
    rw [e1] at t
    exact t
  · intro c' k' hc' hk' ec ek hd hb hn u' hu
    have e1 : rr_adds c k d = true := by unfold rr_adds; rw [ec, rr_r5 c' hc', ek, rr_r15 k' hk', hd]; rfl
    rw [rr_w2b m hc', ← ec] at hb
    rw [hM k' hk' ek] at hn hu ⊢
    have eD : rr_D c k v d m = true := by unfold rr_D; rw [e1, hb, hn]; rfl
    have h3 : c' < 3 := by
      unfold rr_works at hb
      simp only [Bool.and_eq_true] at hb
      have hb1 := hb.1
      rw [ec, rr_r2 c' hc'] at hb1
      exact of_decide_eq_true hb1
    have t := H u'
    unfold rr_o3 rr_H rr_due at t
    rw [eD, e1] at t
    refine t (rr_S_congr hu (fun i hi => ?_))
    have q := hTk k' hk' ek
    unfold rr_u
    by_cases e : i = k'
    · rw [if_pos e, if_pos e]
      unfold rr_TT rr_VV
      rw [e, decide_eq_true ek, ec, nI_clamp (by omega)]
      cases rr_W (nI c') k v
      · exact ⟨by simp, by simp⟩
      · exact ⟨by simp; omega, by simp⟩
    · rw [if_neg e, if_neg e]
      have ne : decide (k = nI i) = false := by
        rw [ek, rr_eqk hk' hi]
        exact decide_eq_false e
      unfold rr_TT rr_VV
      rw [ne]
      exact ⟨rfl, rfl⟩
end
section
theorem rr_r15T {p : Int32} (h : rr_r 0 15 p = true) : ∃ m, m < 16 ∧ p = nI m := by
  unfold rr_r at h
  simp only [Bool.and_eq_true, Bool.not_eq_true', decide_eq_false_iff_not] at h
  obtain ⟨j, hj, e⟩ := nI_of h.1
  refine ⟨j, ?_, e⟩
  have h1 := h.2
  rw [e] at h1
  rcases Nat.lt_or_ge 15 j with z | z
  · exact absurd (nI_lt (a := 15) z hj) h1
  · omega
theorem rr_Hck {c k v d m : Int32} (h : rr_H c k v d m = true) : (∃ c', c' < 3 ∧ c = nI c') ∧ (∃ k', k' < 16 ∧ k = nI k') := by
  unfold rr_H rr_W rr_D rr_adds rr_works at h
  simp only [Bool.or_eq_true, Bool.and_eq_true] at h
  rcases h with h | h
  · exact ⟨rr_r2T h.1.1, rr_r15T h.1.2⟩
  · exact ⟨rr_r2T h.1.2.1, rr_r15T h.1.1.1.2⟩
theorem rr_TT0 {W D : Bool} {c k : Int32} {i : Nat} : rr_TT W D c k i = 0 ↔ (decide (k = nI i) && (W || D)) = false := by
  unfold rr_TT
  cases decide (k = nI i) <;> cases W <;> cases D <;> simp
theorem rr_TTV {W D : Bool} {c k x : Int32} {i : Nat} : (if rr_TT W D c k i = 0 then (-200000) else rr_VV (W || D) k x i) = if (decide (k = nI i) && (W || D)) = true then x else (-200000) := by
  cases e : (decide (k = nI i) && (W || D))
  · rw [if_pos (rr_TT0.mpr e)]
    rfl
  · rw [if_neg (fun z => by rw [rr_TT0.mp z] at e; exact absurd e (by decide))]
    unfold rr_VV
    rw [e]
    rfl
theorem rr_get1 {post : Int32 → St2 → Prop} {u : St2} {c k v d m j : Int32} (hS : rr_S (rr_w2 m) (rr_TT (rr_W c k v) (rr_D c k v d m) c k) (rr_VV (rr_H c k v d m) k (rr_due c k v d m)) u)
    (H : ∀ u', rr_S (rr_w2 m) (rr_TT (rr_W c k v) (rr_D c k v d m) c k) (rr_VV (rr_H c k v d m) k (rr_due c k v d m)) u' → post (rr_o4 c k v d m j) u') : wpX_get post u 0 j := by
  have hw0 : (rr_w2 m).testBit 0 = (rr_r 0 2 (nI 0) && !(rr_r 0 2 m && decide (nI 0 = m))) := rr_w2b m (c := 0) (by omega)
  refine rr_get0 (rr_w2w m) hS (fun h => ?_) (fun k' hk' ej hb => ?_) (fun k' hk' ej hb u' hu => ?_)
  · have t := H u hS
    unfold rr_o4 at t
    rw [rr_r15F h] at t
    exact t
  · have em : m = 0 := by
      by_cases e : m = 0
      · exact e
      · rw [hw0, decide_eq_false (fun z => e (by rw [← z]; rfl)), Bool.and_false] at hb
        exact absurd hb (by decide)
    have t := H u hS
    unfold rr_o4 at t
    rw [ej, rr_r15 k' hk', if_pos rfl, if_pos em] at t
    exact t
  · have em : ¬ m = 0 := by
      intro e
      rw [hw0, e] at hb
      exact absurd hb (by decide)
    have t := H u' hu
    unfold rr_o4 at t
    rw [ej, rr_r15 k' hk', if_pos rfl, if_neg em] at t
    have ee := rr_TTV (W := rr_W c k v) (D := rr_D c k v d m) (c := c) (k := k) (x := rr_due c k v d m) (i := k')
    unfold rr_H
    rw [ee]
    unfold rr_H at t
    rw [Bool.and_comm, show decide (nI k' = k) = decide (k = nI k') from by
      by_cases q : k = nI k'
      · rw [decide_eq_true q, decide_eq_true q.symm]
      · rw [decide_eq_false q, decide_eq_false (fun z => q z.symm)]] at t
    exact t
theorem rr_next1 {post : Int32 → St2 → Prop} {u : St2} {c k v d m j : Int32} (hS : rr_S (rr_w2 m) (rr_TT (rr_W c k v) (rr_D c k v d m) c k) (rr_VV (rr_H c k v d m) k (rr_due c k v d m)) u)
    (H : ∀ u', rr_S (rr_w2 m) (rr_TT (rr_W c k v) (rr_D c k v d m) c k) (rr_VV (rr_H c k v d m) k (rr_due c k v d m)) u' → post (rr_o5 c k v d m j) u') : wpX_nextKey post u j := by
  refine rr_nk1 (rr_w2w m) hS (fun i hi h1 h2 h3 u' hu => ?_) (fun h1 u' hu => ?_)
  · have e : (decide (k = nI i) && rr_H c k v d m) = true := by
      apply rr_nf
      intro z
      exact h2 (rr_TT0.mpr z)
    simp only [Bool.and_eq_true, decide_eq_true_eq] at e
    have t := H u' hu
    unfold rr_o5 at t
    rw [e.2, e.1, decide_eq_false h1] at t
    exact t
  · have t := H u' hu
    unfold rr_o5 at t
    cases eH : rr_H c k v d m
    · rw [eH] at t
      exact t
    · obtain ⟨_, k', hk', ek⟩ := rr_Hck eH
      by_cases q : k < j
      · rw [eH, decide_eq_true q] at t
        exact t
      · have z := rr_TT0.mp (h1 k' hk' (by rw [← ek]; exact q))
        unfold rr_H at eH
        rw [eH, decide_eq_true ek] at z
        exact absurd z (by decide)
theorem rr_chg1 {post : Int32 → St2 → Prop} {u : St2} {c k v d m : Int32} (hS : rr_S (rr_w2 m) (rr_TT (rr_W c k v) (rr_D c k v d m) c k) (rr_VV (rr_H c k v d m) k (rr_due c k v d m)) u)
    (H : ∀ u', post (rr_o6 c k v d m) u') : wpX_changes post u k := by
  refine rr_ch0 (rr_w2w m) hS (fun h => ?_) (fun k' hk' ek u' hu => ?_)
  · have t := H u
    unfold rr_o6 at t
    rw [rr_r15F h] at t
    exact t
  · have t := H u'
    unfold rr_o6 at t
    rw [show rr_r 0 15 k = true from by rw [ek]; exact rr_r15 k' hk', if_pos rfl] at t
    have hc : rr_H c k v d m = true → c.toNatClampNeg < 3 := by
      intro h
      obtain ⟨⟨c', hc', ec⟩, _⟩ := rr_Hck h
      rw [ec, nI_clamp (by omega)]
      exact hc'
    have e : nI (rr_TT (rr_W c k v) (rr_D c k v d m) c k k' / 8) = rr_f (rr_W c k v) + rr_f (rr_D c k v d m) := by
      unfold rr_H at hc
      unfold rr_TT
      rw [decide_eq_true ek]
      revert hc
      generalize c.toNatClampNeg = n
      cases rr_W c k v <;> cases rr_D c k v d m <;> intro hc
      · show nI (0 / 8) = _
        decide
      · have h3 := hc rfl
        show nI ((8 * 1 + n) / 8) = _
        rw [show (8 * 1 + n) / 8 = 1 by omega]
        decide
      · have h3 := hc rfl
        show nI ((8 * 1 + n) / 8) = _
        rw [show (8 * 1 + n) / 8 = 1 by omega]
        decide
      · have h3 := hc rfl
        show nI ((8 * 2 + n) / 8) = _
        rw [show (8 * 2 + n) / 8 = 2 by omega]
        decide
    rw [e]
    exact t
end
section
section
variable {post : Int32 → St0 → Prop} {mc ms kc ks : Nat} {x0 x1 x2 x3 x4 x5 x7 x8 x9 x10 x11 x12 x13 x14 x15 x16 x17 x18 x19 x20 x21 x22 x24 x25 x26 z0 z1 : Int32} {b1 b2 b3 b4 : Bool}
theorem rl_rng {P : Int32 → Prop} {a b x : Int32} (H : P (rr_f (rr_r a b x))) : (x < a → P 0) ∧ (¬ x < a → (b < x → P 0) ∧ (¬ b < x → P 1)) := by
  unfold rr_f rr_r at H
  refine br_c (fun h => ?_) (fun h => br_c (fun h1 => ?_) (fun h1 => ?_))
  · rw [decide_eq_true h] at H
    exact H
  · rw [decide_eq_true h1, decide_eq_false h] at H
    exact H
  · rw [decide_eq_false h1, decide_eq_false h] at H
    exact H
theorem rl_if {Q : Int32 → Prop} {x y : Int32} {b : Bool} (H : Q (if b = true then x else y)) : (rr_f b = 0 → Q y) ∧ (¬ rr_f b = 0 → Q x) := by
  cases b
  · exact br_t rfl H
  · exact br_f (by decide) H
theorem rl_and3 {P : Int32 → Prop} (H : P (rr_f (b1 && b2 && b3))) : (rr_f b1 = 0 → P 0) ∧ (¬ rr_f b1 = 0 → ((rr_f b2 = 0 → P 0) ∧ (¬ rr_f b2 = 0 → ((rr_f b3 = 0 → P 0) ∧ (¬ rr_f b3 = 0 → P 1))))) := by
  cases b1
  · exact br_t rfl H
  · refine br_f (by decide) ?_
    cases b2
    · exact br_t rfl H
    · refine br_f (by decide) ?_
      cases b3
      · exact br_t rfl H
      · exact br_f (by decide) H
theorem rl_79 (H : wL_lawOf_96 post mc ms x0 x1 x2 x3 x4 x5 x7 x8 x9 x10 x11 x12 z0 (rr_f (rr_r 0 15 x1)) kc ks) : wL_lawOf_79 post mc ms x0 x1 x2 x3 x4 x5 x7 x8 x9 x10 x11 x12 z0 kc ks :=
  rl_rng (P := fun z => wL_lawOf_96 post mc ms x0 x1 x2 x3 x4 x5 x7 x8 x9 x10 x11 x12 z0 z kc ks) H
theorem rl_96 (H : wL_lawOf_115 post mc ms x0 x1 x2 x3 x4 x5 x7 x8 x9 x10 x11 x12 x13 z0 (rr_f (rr_r 0 15 x5)) kc ks) : wL_lawOf_96 post mc ms x0 x1 x2 x3 x4 x5 x7 x8 x9 x10 x11 x12 x13 z0 kc ks :=
  rl_rng (P := fun z => wL_lawOf_115 post mc ms x0 x1 x2 x3 x4 x5 x7 x8 x9 x10 x11 x12 x13 z0 z kc ks) H
theorem rl_115 (H : wL_lawOf_136 post mc ms x0 x1 x2 x3 x4 x5 x7 x8 x9 x10 x11 x12 x13 x14 z0 (rr_f (rr_r (-9999) 9999 x2)) kc ks) : wL_lawOf_115 post mc ms x0 x1 x2 x3 x4 x5 x7 x8 x9 x10 x11 x12 x13 x14 z0 kc ks :=
  rl_rng (P := fun z => wL_lawOf_136 post mc ms x0 x1 x2 x3 x4 x5 x7 x8 x9 x10 x11 x12 x13 x14 z0 z kc ks) H
theorem rl_136 (H : wL_lawOf_152 post mc ms x0 x1 x2 x3 x4 x5 x7 x8 x9 x10 x11 x12 x13 x14 x15 z0 (rr_f (rr_r 0 2 x0)) kc ks) : wL_lawOf_136 post mc ms x0 x1 x2 x3 x4 x5 x7 x8 x9 x10 x11 x12 x13 x14 x15 z0 kc ks :=
  rl_rng (P := fun z => wL_lawOf_152 post mc ms x0 x1 x2 x3 x4 x5 x7 x8 x9 x10 x11 x12 x13 x14 x15 z0 z kc ks) H
theorem rl_152 (H : wL_lawOf_174 post mc ms x0 x1 x2 x3 x4 x5 x7 x8 x9 x10 x11 x12 x13 (rr_f b2) x15 (rr_f b3) (rr_f b1) (rr_f (b1 && b2 && b3)) kc ks) : wL_lawOf_152 post mc ms x0 x1 x2 x3 x4 x5 x7 x8 x9 x10 x11 x12 x13 (rr_f b2) x15 (rr_f b3) (rr_f b1) kc ks :=
  rl_and3 (P := fun z => wL_lawOf_174 post mc ms x0 x1 x2 x3 x4 x5 x7 x8 x9 x10 x11 x12 x13 (rr_f b2) x15 (rr_f b3) (rr_f b1) z kc ks) H
theorem rl_174 (H : wL_lawOf_192 post mc ms x0 x1 x2 x3 x4 x5 x7 x8 x9 x10 x11 x12 x13 x14 x15 x16 x17 z0 (rr_f (rr_r 0 2 x4)) kc ks) : wL_lawOf_174 post mc ms x0 x1 x2 x3 x4 x5 x7 x8 x9 x10 x11 x12 x13 x14 x15 x16 x17 z0 kc ks :=
  rl_rng (P := fun z => wL_lawOf_192 post mc ms x0 x1 x2 x3 x4 x5 x7 x8 x9 x10 x11 x12 x13 x14 x15 x16 x17 z0 z kc ks) H
theorem rl_192 (H : wL_lawOf_215 post mc ms x1 x2 x3 x4 x5 x7 x8 x9 x10 x11 x12 x13 x14 x15 x16 (rr_f b1) x18 (rr_f b2) (rr_f (b1 && !(b2 && decide (x0 = x4)))) kc ks) : wL_lawOf_192 post mc ms x0 x1 x2 x3 x4 x5 x7 x8 x9 x10 x11 x12 x13 x14 x15 x16 (rr_f b1) x18 (rr_f b2) kc ks := by
  cases b1
  · exact br_t rfl H
  · refine br_f (by decide) ?_
    cases b2
    · exact br_t rfl H
    · refine br_f (by decide) (br_c (fun e => ?_) (fun e => ?_))
      · rw [decide_eq_true e] at H
        exact H
      · rw [decide_eq_false e] at H
        exact H
theorem rl_215 (H : wL_lawOf_246 post mc ms x1 x2 x3 x4 x5 x7 x8 x9 x10 x11 x12 (rr_f b1) (rr_f b2) x15 x16 x17 x18 x19 z0 (rr_f (b1 && b2 && rr_r (-9999) 9999 x3)) kc ks) : wL_lawOf_215 post mc ms x1 x2 x3 x4 x5 x7 x8 x9 x10 x11 x12 (rr_f b1) (rr_f b2) x15 x16 x17 x18 x19 z0 kc ks := by
  cases b1
  · exact br_t rfl H
  · refine br_f (by decide) ?_
    cases b2
    · exact br_t rfl H
    · exact br_f (by decide) (rl_rng (P := fun z => wL_lawOf_246 post mc ms x1 x2 x3 x4 x5 x7 x8 x9 x10 x11 x12 (rr_f true) (rr_f true) x15 x16 x17 x18 x19 z0 z kc ks) H)
theorem rl_246 (H : wL_lawOf_260 post mc ms x1 x2 x4 x5 x7 x8 x9 x10 x11 x12 x13 x14 x15 x16 x17 (rr_f b1) x19 x20 z0 (if b1 = true then x2 + x3 else x3) kc ks) : wL_lawOf_246 post mc ms x1 x2 x3 x4 x5 x7 x8 x9 x10 x11 x12 x13 x14 x15 x16 x17 (rr_f b1) x19 x20 z0 kc ks :=
  rl_if (Q := fun z => wL_lawOf_260 post mc ms x1 x2 x4 x5 x7 x8 x9 x10 x11 x12 x13 x14 x15 x16 x17 (rr_f b1) x19 x20 z0 z kc ks) H
theorem rl_260 (H : wL_lawOf_283 post mc ms x1 x2 x4 x5 x7 x8 x9 x10 x11 x12 x13 x14 x15 x16 x17 x18 x19 x20 x21 z0 (rr_f (rr_r (-9999) 9999 z0)) kc ks) : wL_lawOf_260 post mc ms x1 x2 x4 x5 x7 x8 x9 x10 x11 x12 x13 x14 x15 x16 x17 x18 x19 x20 x21 z0 kc ks :=
  rl_rng (P := fun z => wL_lawOf_283 post mc ms x1 x2 x4 x5 x7 x8 x9 x10 x11 x12 x13 x14 x15 x16 x17 x18 x19 x20 x21 z0 z kc ks) H
theorem rl_283 (H : wL_lawOf_305 post mc ms x1 x2 x4 x5 x7 x8 x9 x10 x11 x12 x13 x14 x15 x16 x17 x18 x19 (rr_f b1) x22 (rr_f (b1 && b2 && b3)) kc ks) : wL_lawOf_283 post mc ms x1 x2 x4 x5 x7 x8 x9 x10 x11 x12 x13 x14 x15 x16 x17 x18 x19 (rr_f b2) (rr_f b1) x22 (rr_f b3) kc ks :=
  rl_and3 (P := fun z => wL_lawOf_305 post mc ms x1 x2 x4 x5 x7 x8 x9 x10 x11 x12 x13 x14 x15 x16 x17 x18 x19 (rr_f b1) x22 z kc ks) H
theorem rl_305 (H : wL_lawOf_322 post mc ms x1 x2 x4 x5 x7 x8 x9 x10 x11 x12 x13 x14 x15 x16 x17 (rr_f b1) x19 x21 x22 (rr_f b2) (rr_f (b1 || b2)) kc ks) : wL_lawOf_305 post mc ms x1 x2 x4 x5 x7 x8 x9 x10 x11 x12 x13 x14 x15 x16 x17 (rr_f b1) x19 x21 x22 (rr_f b2) kc ks := by
  cases b1
  · cases b2
    · exact br_t rfl (br_t rfl H)
    · exact br_t rfl (br_f (by decide) H)
  · exact br_f (by decide) H
theorem rl_322 (H : wL_lawOf_335 post mc ms x1 x4 x5 x7 x8 x9 x10 x11 x12 x13 x14 x15 x16 x17 x18 x19 x21 x22 (rr_f b1) z0 (if b1 = true then x22 else x2) kc ks) : wL_lawOf_322 post mc ms x1 x2 x4 x5 x7 x8 x9 x10 x11 x12 x13 x14 x15 x16 x17 x18 x19 x21 x22 (rr_f b1) z0 kc ks :=
  rl_if (Q := fun z => wL_lawOf_335 post mc ms x1 x4 x5 x7 x8 x9 x10 x11 x12 x13 x14 x15 x16 x17 x18 x19 x21 x22 (rr_f b1) z0 z kc ks) H
theorem rl_335 (H : wL_lawOf_371 post mc ms x1 x4 x5 x8 x9 x10 x11 x12 (rr_f b2) x15 x18 x19 x21 x22 x24 x25 z0 (if (b1 && b2 && b3) = true then (if b4 = true then (-200000) else (-300000)) else (-100000)) x7 kc ks) : wL_lawOf_335 post mc ms x1 x4 x5 x7 x8 x9 x10 x11 x12 (rr_f b1) (rr_f b2) x15 (rr_f b3) (rr_f b4) x18 x19 x21 x22 x24 x25 z0 kc ks := by
  cases b1
  · exact br_t rfl H
  · refine br_f (by decide) ?_
    cases b2
    · exact br_t rfl H
    · refine br_f (by decide) ?_
      cases b3
      · exact br_t rfl H
      · refine br_f (by decide) ?_
        cases b4
        · exact br_t rfl H
        · exact br_f (by decide) H
theorem rl_371 (h : z1 = z0) (h8 : x8 = x19) (H : wL_lawOf_405 post mc ms x1 x4 x5 x10 x11 x12 x14 x15 x18 (rr_f b2) x25 x26 (if b1 = true then (if b2 = true then x22 else (-300000)) else (-100000)) x9 kc ks) : wL_lawOf_371 post mc ms x1 x4 x5 x8 x9 x10 x11 x12 x14 x15 x18 x19 (rr_f b1) x22 (rr_f b2) x25 x26 z0 z1 kc ks := by
  refine br_t h (br_t h8 ?_)
  cases b1
  · exact br_t rfl H
  · refine br_f (by decide) ?_
    cases b2
    · exact br_t rfl H
    · exact br_f (by decide) H
theorem rl_405 (h : z1 = z0) (H : wL_lawOf_448 post mc ms x1 x5 x11 x12 x14 x18 x24 (rr_f b2) (if b1 = true then (if x4 = 0 then (-300000) else if (b2 && decide (x5 = x1)) = true then x26 else (-200000)) else (-100000)) x10 kc ks) : wL_lawOf_405 post mc ms x1 x4 x5 x10 x11 x12 x14 (rr_f b1) x18 x24 (rr_f b2) x26 z0 z1 kc ks := by
  refine br_t h ?_
  cases b1
  · exact br_t rfl H
  · refine br_f (by decide) (br_c (fun e => ?_) (fun e => ?_))
    · rw [if_pos rfl, if_pos e] at H
      exact H
    · rw [if_pos rfl, if_neg e] at H
      cases b2
      · exact br_t rfl H
      · refine br_f (by decide) (br_c (fun e2 => ?_) (fun e2 => ?_))
        · rw [decide_eq_true e2] at H
          exact H
        · rw [decide_eq_false e2] at H
          exact H
theorem rl_448 (h : z1 = z0) (H : wL_lawOf_470 post mc ms x12 x14 x18 x24 (if (b1 && !decide (x1 < x5)) = true then x1 else (-200000)) x11 kc ks) : wL_lawOf_448 post mc ms x1 x5 x11 x12 x14 x18 x24 (rr_f b1) z0 z1 kc ks := by
  refine br_t h ?_
  cases b1
  · exact br_t rfl H
  · refine br_f (by decide) (br_c (fun e => ?_) (fun e => ?_))
    · rw [decide_eq_true e] at H
      exact H
    · rw [decide_eq_false e] at H
      exact H
theorem rl_506 (h : z1 = z0) (H : post 1 ()) : wL_lawOf_506 post mc ms z0 z1 kc ks := br_t h H
theorem rl_495 (h : z1 = z0 + rr_f b1) (H : post 1 ()) : wL_lawOf_495 post mc ms (rr_f b1) z0 z1 kc ks := by
  cases b1
  · exact br_t rfl (rl_506 h H)
  · exact br_f (by decide) (rl_506 h H)
theorem rl_470 (h : z1 = z0) (h12 : x12 = if b1 = true then rr_f b2 + rr_f b3 else (-100000)) (H : post 1 ()) : wL_lawOf_470 post mc ms x12 (rr_f b1) (rr_f b2) (rr_f b3) z0 z1 kc ks := by
  refine br_t h ?_
  cases b1
  · exact br_t rfl (rl_506 h12 H)
  · refine br_f (by decide) ?_
    cases b2
    · exact br_t rfl (rl_495 h12 H)
    · exact br_f (by decide) (rl_495 h12 H)
theorem rl_all {c k v d m j : Int32} (H : post 1 ()) : wL_lawOf_79 post mc ms c k v d m j (rr_o1 c k v) (rr_f (rr_r 0 2 m)) (rr_o3 c k v d m) (rr_o4 c k v d m j) (rr_o5 c k v d m j) (rr_o6 c k v d m) (rr_f (rr_r 0 5 c)) kc ks := by
  refine rl_79 (rl_96 (rl_115 (rl_136 (rl_152 (rl_174 (rl_192 (rl_215 (rl_246 (rl_260 (rl_283 (rl_305 (rl_322 (rl_335 ?_)))))))))))))
  exact rl_371 rfl rfl (rl_405 rfl (rl_448 rfl (rl_470 rfl rfl H)))
end
theorem rl_cell {post : Int32 → Prop} {L : Nat} {xs : Nat → Int32} {u : St0} {p : Int32} (i : Nat) (hi : i < 6) (hL : L ≤ 6) (hp : p = nI i) (H : ∀ r, post r) : wpL_cellAt post L xs u p := by
  subst hp
  exact pk_le L i (fun _ => H _) (fun z => ⟨pk_in i L z, H _⟩)
theorem rl_S0 {b1 b2 : Nat → Int32} (h : rr_ring b2) : rr_S 7 (fun _ => 0) (fun _ => 0) (7, 7, 12, 0, 0, 0, 0, 0, 0, b1, b2, (fun _ => 0), (fun _ => 0), (fun _ => 0), (fun _ => 0), (fun _ => 0), (fun _ => 0), (fun _ => 0), (fun _ => 0), (fun _ => 0), (fun _ => 0)) :=
  rr_S_mk h ⟨fun _ _ => ⟨by show 0 < 1000; decide, fun _ => rfl, by show rr_r (-9999) 9999 0 = true; decide⟩, fun _ _ _ _ _ => ⟨rfl, rfl, rfl⟩⟩
theorem rl_lawOf {post : Int32 → St0 → Prop} {c k v d m j : Int32} (H : post 1 ()) : wpL_lawOf post 13 2181 () c k v d m j := by
  unfold wpL_lawOf
  refine ⟨by decide, by decide, 12, 2160, by decide, by decide, rr_init (fun b1 b2 hr => rr_put1 (rl_S0 hr) (fun u1 h1 => ?_))⟩
  obtain ⟨_, _, _, _, _, _, _, _, _, _, _, _, _, _, _, _, _, _, _, _, _⟩ := u1
  refine rr_down1 h1 (fun u2 h2 => ?_)
  obtain ⟨_, _, _, _, _, _, _, _, _, _, _, _, _, _, _, _, _, _, _, _, _⟩ := u2
  refine rr_add1 h2 (fun u3 h3 => ?_)
  obtain ⟨_, _, _, _, _, _, _, _, _, _, _, _, _, _, _, _, _, _, _, _, _⟩ := u3
  refine rr_get1 h3 (fun u4 h4 => ?_)
  obtain ⟨_, _, _, _, _, _, _, _, _, _, _, _, _, _, _, _, _, _, _, _, _⟩ := u4
  refine rr_next1 h4 (fun u5 h5 => ?_)
  obtain ⟨_, _, _, _, _, _, _, _, _, _, _, _, _, _, _, _, _, _, _, _, _⟩ := u5
  refine rr_chg1 h5 (fun u6 => ?_)
  obtain ⟨_, _, _, _, _, _, _, _, _, _, _, _, _, _, _, _, _, _, _, _, _⟩ := u6
  exact rl_rng (P := fun z => wL_lawOf_79 post 13 2181 c k v d m j (rr_o1 c k v) (rr_f (rr_r 0 2 m)) (rr_o3 c k v d m) (rr_o4 c k v d m j) (rr_o5 c k v d m j) (rr_o6 c k v d m) z (1 + 12) (21 + 2160)) (rl_all H)
end
section
theorem i_vc (xs : Nat → Int32) (L : Nat) (hL : L ≤ 6) : wpL_law (fun r => r = 1) L xs := by
  refine rl_cell 0 (by omega) hL rfl (fun c => rl_cell 1 (by omega) hL rfl (fun k => rl_cell 2 (by omega) hL rfl (fun v => rl_cell 3 (by omega) hL rfl (fun d => rl_cell 4 (by omega) hL rfl (fun m => rl_cell 5 (by omega) hL rfl (fun j => ?_))))))
  exact ⟨13, 2181, by decide, by decide, rl_lawOf rfl⟩
end
