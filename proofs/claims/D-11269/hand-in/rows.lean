section
/-- c runs: boundaries b, sizes in a2 -/
def sy_P (c : Nat) (b : Nat → Nat) (a2 : Nat → Int32) : Prop := c ≤ 8 ∧ b 0 = 0 ∧ b c = 8 ∧ ∀ k, k < c → b k < b (k + 1) ∧ b (k + 1) ≤ 8 ∧ a2 k = nI (b (k + 1) - b k)
/-- the boundaries of one run -/
def sy_b1 : Nat → Nat
  | 0 => 0
  | _ + 1 => 8
/-- the boundaries after a cut at q inside run 0 -/
def sy_ins (q : Nat) (b : Nat → Nat) : Nat → Nat
  | 0 => 0
  | 1 => q
  | k + 2 => b (k + 1)
theorem sy_mono {c : Nat} {b : Nat → Nat} {a2 : Nat → Int32} (hP : sy_P c b a2) (k d : Nat) (h : k + d ≤ c) : b k ≤ b (k + d) := by
  induction d with
  | zero => exact Nat.le_refl _
  | succ d ih =>
    have h1 := ih (by omega)
    have h2 := (hP.2.2.2 (k + d) (by omega)).1
    rw [show k + (d + 1) = k + d + 1 by omega]
    omega
theorem sy_le {c : Nat} {b : Nat → Nat} {a2 : Nat → Int32} (hP : sy_P c b a2) {k m : Nat} (h : k ≤ m) (hm : m ≤ c) : b k ≤ b m := by
  have h1 := sy_mono hP k (m - k) (by omega)
  rw [show k + (m - k) = m by omega] at h1
  exact h1
theorem sy_b8 {c : Nat} {b : Nat → Nat} {a2 : Nat → Int32} (hP : sy_P c b a2) {k : Nat} (h : k ≤ c) : b k ≤ 8 := by
  have h1 := sy_le hP h (Nat.le_refl c)
  have h2 := hP.2.2.1
  omega
theorem sy_lt {c : Nat} {b : Nat → Nat} {a2 : Nat → Int32} (hP : sy_P c b a2) {k m : Nat} (h : k < m) (hm : m ≤ c) : b k < b m := by
  have h1 := (hP.2.2.2 k (by omega)).1
  have h2 := sy_le hP (show k + 1 ≤ m by omega) hm
  omega
theorem sy_add {c : Nat} {b : Nat → Nat} {a2 : Nat → Int32} (hP : sy_P c b a2) {k : Nat} (h : k < c) : nI (b k) + a2 k = nI (b (k + 1)) := by
  obtain ⟨h1, _, h3⟩ := hP.2.2.2 k h
  rw [h3, nI_add, show b k + (b (k + 1) - b k) = b (k + 1) by omega]
theorem sy_P1 {a2 : Nat → Int32} (h : a2 0 = nI 8) : sy_P 1 sy_b1 a2 := by
  refine ⟨by omega, rfl, rfl, fun k hk => ?_⟩
  have e : k = 0 := by omega
  subst e
  exact ⟨by decide, by decide, h⟩
theorem sy_runAt {post : Int32 → St2 → Prop} {n g fl he bg : Int32} {a1 a2 a3 a4 a5 : Nat → Int32} {c q : Nat} {b : Nat → Nat} (r : Nat) (hP : sy_P c b a2) (hq : q ≤ 8) (hr : r ≤ c) (h1 : b r ≤ q) (h2 : r < c → q < b (r + 1)) (H : post (nI r) (n, g, nI c, fl, he, nI (b r), a1, a2, a3, a4, a5)) : wpX_runAt post (n, g, nI c, fl, he, bg, a1, a2, a3, a4, a5) (nI q) := by
  have hc : c ≤ 8 := hP.1
  have h := pk_loop (σ := Unit) (fun m i _ => wX_runAt_9 post (nI q) n g (nI c) fl he a1 a2 a3 a4 a5 m (nI i) (nI i) (nI (b i))) (fun _ _ => True) r 0 () (Nat.zero_le r) trivial
    (fun m _ _ => pk_le c r (fun z => H) (fun z => ⟨pk_in r 68 (by omega), pk_lt q (b (r + 1)) (fun _ => H) (fun y => absurd (h2 z) (by omega)) rfl (by rw [nI_clamp (by omega)]; exact sy_add hP z) (by omega) (by have := sy_b8 hP (show r + 1 ≤ c by omega); omega)⟩))
    (fun m i _ hi _ hw => pk_le c i (fun z => absurd z (by omega)) (fun z => ⟨pk_in i 68 (by omega), pk_lt q (b (i + 1)) (fun y => absurd y (by have := sy_le hP (show i + 1 ≤ r by omega) hr; omega)) (fun _ => ⟨pk_in i 68 (by omega), nm_r (e' := nI (b (i + 1))) (by rw [nI_clamp (by omega)]; exact sy_add hP (by omega)) (nm_r (nI_1 i) (nm_r (nI_1 i) (hw () trivial)))⟩) rfl (by rw [nI_clamp (by omega)]; exact sy_add hP (by omega)) (by omega) (by have := sy_b8 hP (show i + 1 ≤ c by omega); omega)⟩))
  obtain ⟨m, hm⟩ := h
  have hm' : wX_runAt_9 post (nI q) n g (nI c) fl he a1 a2 a3 a4 a5 m (nI 0) (nI 0) (nI (b 0)) := hm
  rw [hP.2.1] at hm'
  exact ⟨m, hm'⟩
/-- a cut at a boundary changes nothing -/
theorem sy_cutB {post : Int32 → St2 → Prop} {n g fl he bg : Int32} {a1 a2 a3 a4 a5 : Nat → Int32} {c q : Nat} {b : Nat → Nat} (r : Nat) (hP : sy_P c b a2) (hr : r ≤ c) (hq : b r = q) (H : ∀ bg', post (nI r) (n, g, nI c, fl, he, bg', a1, a2, a3, a4, a5)) : wpX_cutAt post (n, g, nI c, fl, he, bg, a1, a2, a3, a4, a5) (nI q) := by
  have hc := hP.1
  have h8 := sy_b8 hP hr
  refine sy_runAt (bg := bg) r hP (by omega) hr (by omega) (fun z => ?_) ?_
  · have := (hP.2.2.2 r z).1
    omega
  · exact pk_le c r (fun _ => H _) (fun _ => pk_le q (b r) (fun _ => H _) (fun z => absurd z (by omega)))
def sy_oI (c : Nat) (a2 a3 : Nat → Int32) (i : Nat) (s : (Nat → Int32) × (Nat → Int32)) : Prop := i ≤ c ∧ (∀ k, k ≤ i → s.1 k = a2 k) ∧ (∀ k, i ≤ k → k < c → s.1 (k + 1) = a2 k) ∧ (∀ k, k ≤ i → s.2 k = a3 k) ∧ (∀ k, i ≤ k → k < c → s.2 (k + 1) = a3 k)
theorem sy_o1 {a s : Nat → Int32} {i : Nat} (h : ∀ k, k ≤ i + 1 → s k = a k) : ∀ k, k ≤ i → upd s (i + 1) (s i) k = a k := by
  intro k hk
  rw [pk_un (show k ≠ i + 1 by omega)]
  exact h k (by omega)
theorem sy_o2 {a s : Nat → Int32} {i c : Nat} (h : ∀ k, k ≤ i + 1 → s k = a k) (h2 : ∀ k, i + 1 ≤ k → k < c → s (k + 1) = a k) : ∀ k, i ≤ k → k < c → upd s (i + 1) (s i) (k + 1) = a k := by
  intro k hk hc
  by_cases e : k = i
  · rw [e, pk_us]
    exact h i (by omega)
  · rw [pk_un (show k + 1 ≠ i + 1 by omega)]
    exact h2 k (by omega) hc
/-- openRun 0 -/
theorem sy_open {post : St2 → Prop} {n g fl he bg : Int32} {a1 a2 a3 a4 a5 : Nat → Int32} {c : Nat} (hc : c ≤ 8) (H : ∀ a2' a3', a2' 0 = a2 0 → (∀ k, k < c → a2' (k + 1) = a2 k) → a3' 0 = a3 0 → (∀ k, k < c → a3' (k + 1) = a3 k) → post (n, g, nI (c + 1), fl, he, bg, a1, a2', a3', a4, a5)) : wpX_openRun post (n, g, nI c, fl, he, bg, a1, a2, a3, a4, a5) (nI 0) := by
  have stop : ∀ (m : Nat) (s : (Nat → Int32) × (Nat → Int32)), sy_oI c a2 a3 0 s → wX_openRun_5 post (nI 0) n g (nI c) fl he bg (m + 1) (nI 0) a1 s.1 s.2 a4 a5 := fun m s h =>
    br_t (nI_le (a := 0) (b := 0) (Nat.le_refl 0) (by omega)) (nm_r (nI_1 c) (H s.1 s.2 (h.2.1 0 (Nat.le_refl 0)) (fun k hk => h.2.2.1 k (Nat.zero_le k) hk) (h.2.2.2.1 0 (Nat.le_refl 0)) (fun k hk => h.2.2.2.2 k (Nat.zero_le k) hk)))
  have step : ∀ (m i : Nat) (s : (Nat → Int32) × (Nat → Int32)), sy_oI c a2 a3 (i + 1) s → (∀ s', sy_oI c a2 a3 i s' → wX_openRun_5 post (nI 0) n g (nI c) fl he bg m (nI i) a1 s'.1 s'.2 a4 a5) → wX_openRun_5 post (nI 0) n g (nI c) fl he bg (m + 1) (nI (i + 1)) a1 s.1 s.2 a4 a5 := by
    intro m i s h hw
    obtain ⟨h0, h1, h2, h3, h4⟩ := h
    exact br_f (nI_nle (by omega) (by omega)) ⟨pk_in i 68 (by omega) (nI_pred i), pk_in (i + 1) 68 (by omega), nm_r (e' := upd s.1 (i + 1) (s.1 i)) (by rw [nI_pred, nI_clamp (by omega), nI_clamp (by omega)]) ⟨pk_in i 68 (by omega) (nI_pred i), pk_in (i + 1) 68 (by omega), nm_r (e' := upd s.2 (i + 1) (s.2 i)) (by rw [nI_pred, nI_clamp (by omega), nI_clamp (by omega)]) (nm_r (pk_m1 i) (hw (upd s.1 (i + 1) (s.1 i), upd s.2 (i + 1) (s.2 i)) ⟨by omega, sy_o1 h1, sy_o2 h1 h2, sy_o1 h3, sy_o2 h3 h4⟩))⟩⟩
  have h := pk_loopD (fun m i s => wX_openRun_5 post (nI 0) n g (nI c) fl he bg m (nI i) a1 s.1 s.2 a4 a5) (sy_oI c a2 a3) stop step c (a2, a3) ⟨Nat.le_refl c, fun k _ => rfl, fun k h1 h2 => absurd h2 (by omega), fun k _ => rfl, fun k h1 h2 => absurd h2 (by omega)⟩
  exact ⟨c + 1, h⟩
/-- a cut inside run 0, while all runs have the look x -/
theorem sy_cut0 {post : Int32 → St2 → Prop} {n g fl he bg x : Int32} {a1 a2 a3 a4 a5 : Nat → Int32} {c q : Nat} {b : Nat → Nat} (hP : sy_P c b a2) (hc : c ≤ 7) (hc0 : 0 < c) (h0 : 0 < q) (h1 : q < b 1) (hx : ∀ k, k < c → a3 k = x) (H : ∀ a2' a3', sy_P (c + 1) (sy_ins q b) a2' → (∀ k, k < c + 1 → a3' k = x) → post (nI 1) (n, g, nI (c + 1), fl, he, nI 0, a1, a2', a3', a4, a5)) : wpX_cutAt post (n, g, nI c, fl, he, bg, a1, a2, a3, a4, a5) (nI q) := by
  have hb := hP.2.2.2 0 hc0
  have b0 : b 0 = 0 := hP.2.1
  have hb1 : b 1 ≤ 8 := hb.2.1
  refine sy_runAt (bg := bg) 0 hP (by omega) (by omega) (by omega) (fun _ => h1) ?_
  rw [b0]
  refine pk_le c 0 (fun z => absurd z (by omega)) (fun _ => pk_le q 0 (fun z => absurd z (by omega)) (fun _ => sy_open (by omega) (fun a2' a3' u1 u2 v1 v2 => ?_)))
  have e0 : (nI 0).toNatClampNeg = 0 := nI_clamp (by omega)
  have e1 : (nI 0 + 1).toNatClampNeg = 1 := pk_cl 1
  have e2 : a2' 1 = nI (b 1) := by
    have t : a2' 1 = a2 0 := u2 0 hc0
    have t2 : a2 0 = nI (b 1 - b 0) := hb.2.2
    rw [t, t2, b0, Nat.sub_zero]
  refine ⟨pk_in 0 68 (by omega), nm_r (e' := upd a2' 0 (nI q)) ?_ ⟨pk_in 1 68 (by omega), pk_in 0 68 (by omega), pk_in 1 68 (by omega), nm_r (e' := upd (upd a2' 0 (nI q)) 1 (nI (b 1 - q))) ?_ (nm_r (e' := nI 1) rfl (H _ _ ?_ ?_))⟩⟩
  · rw [e0, pk_sub (Nat.zero_le q), Nat.sub_zero]
  · rw [e0, e1, pk_us, pk_un (show 1 ≠ 0 by omega), e2, pk_sub (by omega)]
  · refine ⟨by omega, rfl, ?_, ?_⟩
    · obtain ⟨d, rfl⟩ : ∃ d, c = d + 1 := ⟨c - 1, by omega⟩
      exact hP.2.2.1
    · intro k hk
      match k with
      | 0 => exact ⟨h0, by show q ≤ 8; omega, by rw [pk_un (show 0 ≠ 1 by omega), pk_us]; rfl⟩
      | 1 => exact ⟨h1, hb1, pk_us⟩
      | k + 2 =>
        have t := hP.2.2.2 (k + 1) (by omega)
        refine ⟨t.1, t.2.1, ?_⟩
        rw [pk_un (show k + 2 ≠ 1 by omega), pk_un (show k + 2 ≠ 0 by omega)]
        have t3 : a2' (k + 2) = a2 (k + 1) := u2 (k + 1) (by omega)
        rw [t3]
        exact t.2.2
  · intro k hk
    match k with
    | 0 => rw [v1]; exact hx 0 hc0
    | k + 1 => rw [v2 k (by omega)]; exact hx k (by omega)
end
section
/-- what mixed answers -/
def sy_mx (o m s : Int32) : Int32 := if m < 8 then (o &&& ((m &&& 7) ^^^ (-1))) ||| (s &&& (m &&& 7)) else (o &&& (((m &&& 7) ||| 56) ^^^ (-1))) ||| (s &&& ((m &&& 7) ||| 56))
theorem sy_mixed {post : Int32 → Prop} {n g c fl he bg : Int32} {a1 a2 a3 a4 a5 : Nat → Int32} {o m s : Int32} (H : post (sy_mx o m s)) : wpX_mixed post (n, g, c, fl, he, bg, a1, a2, a3, a4, a5) o m s := by
  unfold sy_mx at H
  exact nm_e (br_c (fun z => by rw [if_pos z] at H; exact H) (fun z => by rw [if_neg z] at H; exact nm_e H))
/-- what style counts, over d runs from r on -/
def sy_ch (a2 a3 : Nat → Int32) (m s : Int32) (r : Nat) : Nat → Int32
  | 0 => 0
  | d + 1 => if sy_mx (a3 (r + d)) m s = a3 (r + d) then sy_ch a2 a3 m s r d else sy_ch a2 a3 m s r d + a2 (r + d)
def sy_sI (a3 : Nat → Int32) (m s : Int32) (r d : Nat) (t : Nat → Int32) : Prop := (∀ k, r ≤ k → k < r + d → t k = sy_mx (a3 k) m s) ∧ (∀ k, ¬ (r ≤ k ∧ k < r + d) → t k = a3 k)
theorem sy_sloop {post : Int32 → St2 → Prop} {m s n g fl he bg : Int32} {a1 a2 a3 a4 a5 : Nat → Int32} {c i j : Nat} {b : Nat → Nat} (r l : Nat) (hP : sy_P c b a2) (hl : r + l ≤ c) (hi : b r = i) (hj : b (r + l) = j) (H : ∀ t, sy_sI a3 m s r l t → wX_style_145 post (sy_ch a2 a3 m s r l) n g (nI c) fl he bg a1 a2 t a4 a5) : ∃ fu, wX_style_62 post (nI j) m s n g (nI c) fl he bg fu (nI r) 0 (nI i) 0 a1 a2 a3 a4 a5 := by
  have hc := hP.1
  have hj8 : j ≤ 8 := by
    have := sy_b8 hP hl
    omega
  have stop : ∀ (f : Nat) (t : Nat → Int32), sy_sI a3 m s r l t → wX_style_62 post (nI j) m s n g (nI c) fl he bg (f + 1) (nI (r + l)) (sy_ch a2 a3 m s r l) (nI (b (r + l))) (nI l) a1 a2 t a4 a5 := fun f t h =>
    pk_le 64 l (fun z => absurd z (by omega)) (fun _ => pk_le j (b (r + l)) (fun _ => H t h) (fun z => absurd z (by omega)))
  have step : ∀ (f d : Nat) (t : Nat → Int32), d < l → sy_sI a3 m s r d t → (∀ t', sy_sI a3 m s r (d + 1) t' → wX_style_62 post (nI j) m s n g (nI c) fl he bg f (nI (r + (d + 1))) (sy_ch a2 a3 m s r (d + 1)) (nI (b (r + (d + 1)))) (nI (d + 1)) a1 a2 t' a4 a5) → wX_style_62 post (nI j) m s n g (nI c) fl he bg (f + 1) (nI (r + d)) (sy_ch a2 a3 m s r d) (nI (b (r + d))) (nI d) a1 a2 t a4 a5 := by
    intro f d t hd ht hw
    obtain ⟨t1, t2⟩ := ht
    have hlt : b (r + d) < j := by
      have := sy_lt hP (show r + d < r + l by omega) hl
      omega
    have et : t (r + d) = a3 (r + d) := t2 (r + d) (by omega)
    have ec : (nI (r + d)).toNatClampNeg = r + d := nI_clamp (by omega)
    have eb : nI (b (r + d)) + a2 (r + d) = nI (b (r + (d + 1))) := sy_add hP (by omega)
    have hI : sy_sI a3 m s r (d + 1) (upd t (r + d) (sy_mx (a3 (r + d)) m s)) := by
      constructor
      · intro k hk hk2
        by_cases e : k = r + d
        · rw [e, pk_us]
        · rw [pk_un e]
          exact t1 k hk (by omega)
      · intro k hk
        rw [pk_un (show k ≠ r + d by omega)]
        exact t2 k (by omega)
    have hw' := hw _ hI
    have hin : vp_in (nI (r + d)) 68 := pk_in (r + d) 68 (by omega)
    refine pk_le 64 d (fun z => absurd z (by omega)) (fun _ => pk_le j (b (r + d)) (fun z => absurd z (by omega)) (fun _ => ⟨hin, sy_mixed ?_⟩))
    rw [ec, et]
    refine ⟨hin, br_c (fun z => ?_) (fun z => ⟨hin, nm_e ?_⟩)⟩
    · have e : sy_ch a2 a3 m s r (d + 1) = sy_ch a2 a3 m s r d := if_pos z
      rw [e] at hw'
      exact ⟨hin, nm_r (e' := upd t (r + d) (sy_mx (a3 (r + d)) m s)) (by rw [ec]) ⟨hin, nm_r (e' := nI (b (r + (d + 1)))) (by rw [ec]; exact eb) (nm_r (nI_1 (r + d)) (nm_r (nI_1 d) hw'))⟩⟩
    · have e : sy_ch a2 a3 m s r (d + 1) = sy_ch a2 a3 m s r d + a2 (r + d) := if_neg z
      rw [e] at hw'
      exact ⟨hin, nm_r (e' := upd t (r + d) (sy_mx (a3 (r + d)) m s)) (by rw [ec]) ⟨hin, nm_r (e' := nI (b (r + (d + 1)))) (by rw [ec]; exact eb) (nm_r (nI_1 (r + d)) (nm_r (nI_1 d) hw'))⟩⟩
  have h := pk_loop (fun f d t => wX_style_62 post (nI j) m s n g (nI c) fl he bg f (nI (r + d)) (sy_ch a2 a3 m s r d) (nI (b (r + d))) (nI d) a1 a2 t a4 a5) (fun d t => sy_sI a3 m s r d t) l 0 a3 (Nat.zero_le l) ⟨fun k h1 h2 => absurd h1 (by omega), fun k _ => rfl⟩ stop step
  obtain ⟨f, hf⟩ := h
  have hf' : wX_style_62 post (nI j) m s n g (nI c) fl he bg f (nI r) 0 (nI (b r)) 0 a1 a2 a3 a4 a5 := hf
  rw [hi] at hf'
  exact ⟨f, hf'⟩
/-- joinRuns where no neighbours are alike -/
theorem sy_joinN {post : St2 → Prop} {n g fl he bg : Int32} {a1 a2 a3 a4 a5 : Nat → Int32} {c : Nat} (hc : 1 ≤ c) (hc8 : c ≤ 8) (hne : ∀ k, k + 1 < c → ¬ a3 (k + 1) = a3 k) (H : post (n, g, nI c, fl, he, bg, a1, a2, a3, a4, a5)) : wpX_joinRuns post (n, g, nI c, fl, he, bg, a1, a2, a3, a4, a5) := by
  obtain ⟨d, rfl⟩ : ∃ d, c = d + 1 := ⟨c - 1, by omega⟩
  refine nm_r (nI_pred d) ⟨d + 1, ?_⟩
  exact pk_loopD (σ := Unit) (fun m i _ => wX_joinRuns_7 post m (nI i) n g (nI (d + 1)) fl he bg a1 a2 a3 a4 a5) (fun i _ => i ≤ d) (fun m _ _ => br_t (nI_le (a := 0) (b := 0) (Nat.le_refl 0) (by omega)) H)
    (fun m i _ h hw => by
      have h' : i + 1 ≤ d := h
      exact br_f (nI_nle (by omega) (by omega)) ⟨pk_in (i + 1) 68 (by omega), pk_in i 68 (by omega) (nI_pred i), br_f (by rw [nI_pred, nI_clamp (by omega), nI_clamp (by omega)]; exact hne i (by omega)) (nm_r (pk_m1 i) (hw () (show i ≤ d by omega)))⟩) d () (Nat.le_refl d)
/-- joinRuns where all are alike -/
theorem sy_joinE {post : St2 → Prop} {n g fl he bg x : Int32} {a1 a2 a3 a4 a5 : Nat → Int32} {c : Nat} {b : Nat → Nat} (hP : sy_P c b a2) (hc : 1 ≤ c) (hx : ∀ k, k < c → a3 k = x) (H : ∀ a2', a2' 0 = nI 8 → post (n, g, nI 1, fl, he, bg, a1, a2', a3, a4, a5)) : wpX_joinRuns post (n, g, nI c, fl, he, bg, a1, a2, a3, a4, a5) := by
  obtain ⟨d, rfl⟩ : ∃ d, c = d + 1 := ⟨c - 1, by omega⟩
  have hc8 := hP.1
  have b8 : b (d + 1) = 8 := hP.2.2.1
  refine nm_r (nI_pred d) ⟨d + 1, ?_⟩
  refine pk_loopD (σ := Nat → Int32) (fun m i s => wX_joinRuns_7 post m (nI i) n g (nI (i + 1)) fl he bg a1 s a3 a4 a5) (fun i s => i ≤ d ∧ (∀ k, k < i → s k = nI (b (k + 1) - b k)) ∧ s i = nI (8 - b i)) ?_ ?_ d a2 ⟨Nat.le_refl d, fun k hk => (hP.2.2.2 k (by omega)).2.2, ?_⟩
  · intro m s h
    have h2 := h.2.2
    rw [hP.2.1] at h2
    exact br_t (nI_le (a := 0) (b := 0) (Nat.le_refl 0) (by omega)) (H s h2)
  · intro m i s h hw
    obtain ⟨h1, h2, h3⟩ := h
    have hb1 := (hP.2.2.2 i (by omega)).1
    have hb2 := sy_b8 hP (show i + 1 ≤ d + 1 by omega)
    refine br_f (nI_nle (by omega) (by omega)) ⟨pk_in (i + 1) 68 (by omega), pk_in i 68 (by omega) (nI_pred i), br_t (by rw [nI_pred, nI_clamp (by omega), nI_clamp (by omega), hx (i + 1) (by omega), hx i (by omega)]) ⟨pk_in i 68 (by omega) (nI_pred i), pk_in (i + 1) 68 (by omega), pk_in i 68 (by omega) (nI_pred i), nm_r (e' := upd s i (nI (8 - b i))) ?_ (nm_r (nI_pred (i + 1)) ⟨1, br_t (nI_le (Nat.le_refl (i + 1)) (by omega)) (nm_r (pk_m1 i) (hw (upd s i (nI (8 - b i))) ⟨by omega, ?_, pk_us⟩))⟩)⟩⟩
    · have e1 : (nI (i + 1) - 1).toNatClampNeg = i := by rw [nI_pred, nI_clamp (by omega)]
      have e2 : (nI (i + 1)).toNatClampNeg = i + 1 := nI_clamp (by omega)
      rw [e1, e2, h2 i (by omega), h3, nI_add, show b (i + 1) - b i + (8 - b (i + 1)) = 8 - b i by omega]
    · intro k hk
      rw [pk_un (show k ≠ i by omega)]
      exact h2 k (by omega)
  · have t := (hP.2.2.2 d (by omega)).2.2
    rw [b8] at t
    exact t
end
section
/-- the law's style call, in range, on one run of look 13 -/
theorem sy_style1 {post : Int32 → St2 → Prop} {g fl he bg m s : Int32} {a1 a2 a3 a4 a5 : Nat → Int32} {i j : Nat} (hi : i < j) (hj : j ≤ 8) (m0 : ¬ m < 0) (m1 : ¬ 15 < m) (s0 : ¬ s < 0) (s1 : s ≤ 63) (hP : sy_P 1 sy_b1 a2) (hx : a3 0 = 13)
    (HN : sy_mx 13 m s = 13 → ∀ bg' a2' a3', sy_P 1 sy_b1 a2' → a3' 0 = 13 → post 0 (nI 8, g, nI 1, fl, he, bg', a1, a2', a3', a4, a5))
    (HD : ¬ sy_mx 13 m s = 13 → ∀ c b r bg' a2' a3', sy_P c b a2' → c = (if i = 0 then 0 else 1) + 1 + (if j = 8 then 0 else 1) → r = (if i = 0 then 0 else 1) → b r = i → b (r + 1) = j → (∀ k, k < c → a3' k = if k = r then sy_mx 13 m s else 13) → post (nI (j - i)) (nI 8, g, nI c, fl, he, bg', a1, a2', a3', a4, a5)) :
    wpX_style post (nI 8, g, nI 1, fl, he, bg, a1, a2, a3, a4, a5) (nI i) (nI j) m s := by
  have core : ∀ c b r bg' a2' a3', sy_P c b a2' → c = (if i = 0 then 0 else 1) + 1 + (if j = 8 then 0 else 1) → r = (if i = 0 then 0 else 1) → b r = i → b (r + 1) = j → (∀ k, k < c → a3' k = 13) → ∃ fu, wX_style_62 post (nI j) m s (nI 8) g (nI c) fl he bg' fu (nI r) 0 (nI i) 0 a1 a2' a3' a4 a5 := by
    intro c b r bg' a2' a3' hP' hc hr h1 h2 hx'
    have hrc : r < c := by
      rw [hc, hr]
      split <;> split <;> omega
    have hr1 : r ≤ 1 := by
      rw [hr]
      split <;> omega
    have hc2 : c ≤ r + 2 := by
      rw [hc, hr]
      split <;> split <;> omega
    have hc8 := hP'.1
    refine sy_sloop r 1 hP' (by omega) h1 h2 (fun t ht => ?_)
    have er : a3' r = 13 := hx' r hrc
    have e0 : sy_ch a2' a3' m s r 1 = if sy_mx 13 m s = 13 then 0 else 0 + a2' r := by
      show (if sy_mx (a3' (r + 0)) m s = a3' (r + 0) then (0 : Int32) else 0 + a2' (r + 0)) = _
      rw [Nat.add_zero, er]
    have hl : ∀ k, k < c → t k = if k = r then sy_mx 13 m s else 13 := by
      intro k hk
      by_cases e : k = r
      · rw [if_pos e, ht.1 k (by omega) (by omega), hx' k hk]
      · rw [if_neg e, ht.2 k (by omega), hx' k hk]
    by_cases z : sy_mx 13 m s = 13
    · rw [e0, if_pos z]
      refine sy_joinE hP' (by omega) (x := 13) (fun k hk => ?_) (fun a2'' h8 => HN z bg' a2'' t (sy_P1 h8) ?_)
      · rw [hl k hk, z]
        split <;> rfl
      · rw [hl 0 (by omega), z]
        split <;> rfl
    · rw [e0, if_neg z]
      refine sy_joinN (by omega) hc8 (fun k hk => ?_) ?_
      · rw [hl (k + 1) hk, hl k (by omega)]
        by_cases e : k = r
        · rw [if_neg (by omega), if_pos e]
          exact fun h => z h.symm
        · rw [if_pos (show k + 1 = r by omega), if_neg e]
          exact z
      · have t1 := (hP'.2.2.2 r hrc).2.2
        rw [h1, h2] at t1
        have e1 : 0 + a2' r = nI (j - i) := by
          rw [t1]
          exact (nI_add 0 (j - i)).trans (by rw [Nat.zero_add])
        rw [e1]
        exact HD z c b r bg' a2' t hP' hc hr h1 h2 hl
  have hne : ¬ nI i = nI j := fun h => by
    rw [nI_eq (by omega) (by omega)] at h
    omega
  refine br_f (nI_pos (by omega)) (br_f (nI_nlt (by omega) (by omega)) (br_t (nI_le hj (by omega)) (br_t rfl (br_f m0 (br_f m1 (br_f s0 (br_t s1 (br_f hne ?_))))))))
  have hx1 : ∀ k, k < 1 → a3 k = 13 := fun k hk => by
    rw [show k = 0 by omega]
    exact hx
  by_cases j8 : j = 8
  · refine sy_cutB 1 hP (Nat.le_refl 1) (by show 8 = j; omega) (fun bg1 => ?_)
    by_cases i0 : i = 0
    · exact sy_cutB 0 hP (by omega) (by show 0 = i; omega) (fun bg2 => core 1 sy_b1 0 bg2 a2 a3 hP (by rw [if_pos i0, if_pos j8]) (by rw [if_pos i0]) i0.symm (by show 8 = j; omega) hx1)
    · exact sy_cut0 hP (by omega) (by omega) (by omega) (by show i < 8; omega) hx1 (fun a2' a3' hP' hx' => core 2 (sy_ins i sy_b1) 1 _ a2' a3' hP' (by rw [if_neg i0, if_pos j8]) (by rw [if_neg i0]) rfl (by show 8 = j; omega) hx')
  · refine sy_cut0 hP (by omega) (by omega) (by omega) (by show j < 8; omega) hx1 (fun a2' a3' hP' hx' => ?_)
    by_cases i0 : i = 0
    · exact sy_cutB 0 hP' (by omega) (by show 0 = i; omega) (fun bg2 => core 2 (sy_ins j sy_b1) 0 bg2 a2' a3' hP' (by rw [if_pos i0, if_neg j8]) (by rw [if_pos i0]) i0.symm rfl hx')
    · exact sy_cut0 hP' (by omega) (by omega) (by omega) (by show i < j; omega) hx' (fun a2'' a3'' hP'' hx'' => core 3 (sy_ins i (sy_ins j sy_b1)) 1 _ a2'' a3'' hP'' (by rw [if_neg i0, if_neg j8]) (by rw [if_neg i0]) rfl rfl hx'')
/-- the picture: run r has the look y, the others the look x; at most three runs -/
def sy_R (c : Nat) (b : Nat → Nat) (r : Nat) (x y : Int32) (a2 a3 : Nat → Int32) : Prop := sy_P c b a2 ∧ r < c ∧ r ≤ 1 ∧ c ≤ r + 2 ∧ ∀ k, k < c → a3 k = if k = r then y else x
/-- the runs after a call that may join them -/
def sy_same (c : Nat) (b : Nat → Nat) (r : Nat) (c' : Nat) (b' : Nat → Nat) (r' : Nat) (x y : Int32) : Prop := (c' = c ∧ b' = b ∧ r' = r) ∨ (c' = 1 ∧ b' = sy_b1 ∧ r' = 0 ∧ (c = 1 ∨ x = y))
/-- style over the whole -/
theorem sy_style2 {post : Int32 → St2 → Prop} {g fl he bg m s x y : Int32} {a1 a2 a3 a4 a5 : Nat → Int32} {c r : Nat} {b : Nat → Nat} (hR : sy_R c b r x y a2 a3) (m0 : ¬ m < 0) (m1 : ¬ 15 < m) (s0 : ¬ s < 0) (s1 : s ≤ 63)
    (H : ∀ ch c' b' r' bg' a2' a3', sy_R c' b' r' (sy_mx x m s) (sy_mx y m s) a2' a3' → sy_same c b r c' b' r' (sy_mx x m s) (sy_mx y m s) → post ch (nI 8, g, nI c', fl, he, bg', a1, a2', a3', a4, a5)) :
    wpX_style post (nI 8, g, nI c, fl, he, bg, a1, a2, a3, a4, a5) (nI 0) (nI 8) m s := by
  obtain ⟨hP, hrc, hr1, hc2, hx⟩ := hR
  have hc8 := hP.1
  have hne : ¬ nI 0 = nI 8 := by decide
  refine br_f (nI_pos (by omega)) (br_f (nI_nlt (by omega) (by omega)) (br_t (nI_le (Nat.le_refl 8) (by omega)) (br_t rfl (br_f m0 (br_f m1 (br_f s0 (br_t s1 (br_f hne ?_))))))))
  refine sy_cutB c hP (Nat.le_refl c) hP.2.2.1 (fun bg1 => sy_cutB 0 hP (by omega) hP.2.1 (fun bg2 => ?_))
  refine sy_sloop 0 c hP (by omega) hP.2.1 (by rw [Nat.zero_add]; exact hP.2.2.1) (fun t ht => ?_)
  have hl : ∀ k, k < c → t k = if k = r then sy_mx y m s else sy_mx x m s := by
    intro k hk
    rw [ht.1 k (by omega) (by omega), hx k hk]
    split <;> rfl
  have hE : (c = 1 ∨ sy_mx x m s = sy_mx y m s) → wX_style_145 post (sy_ch a2 a3 m s 0 c) (nI 8) g (nI c) fl he bg2 a1 a2 t a4 a5 := by
    intro hh
    have hl2 : ∀ k, k < c → t k = sy_mx y m s := by
      intro k hk
      rw [hl k hk]
      by_cases e : k = r
      · rw [if_pos e]
      · rw [if_neg e]
        rcases hh with h | h
        · omega
        · exact h
    refine sy_joinE hP (by omega) hl2 (fun a2' h8 => H _ 1 sy_b1 0 bg2 a2' t ⟨sy_P1 h8, by omega, by omega, by omega, fun k hk => ?_⟩ (Or.inr ⟨rfl, rfl, rfl, hh⟩))
    rw [hl2 k (by omega), if_pos (by omega)]
  by_cases z : c = 1 ∨ sy_mx x m s = sy_mx y m s
  · exact hE z
  · have z1 : ¬ sy_mx x m s = sy_mx y m s := fun h => z (Or.inr h)
    refine sy_joinN (by omega) hc8 (fun k hk => ?_) (H _ c b r bg2 a2 t ⟨hP, hrc, hr1, hc2, hl⟩ (Or.inl ⟨rfl, rfl, rfl⟩))
    rw [hl (k + 1) hk, hl k (by omega)]
    by_cases e : k = r
    · rw [if_neg (by omega), if_pos e]
      exact z1
    · rw [if_pos (show k + 1 = r by omega), if_neg e]
      exact fun h => z1 h.symm
end
section
/-- is i a place of the text -/
def sy_pc (i : Int32) : Int32 := if i < 0 then 0 else if 8 ≤ i then 0 else 1
theorem sy_pcs (i : Int32) : (sy_pc i = 0 ∧ (i < 0 ∨ (¬ i < 0 ∧ ¬ i < 8))) ∨ (sy_pc i = 1 ∧ ∃ q, q < 8 ∧ i = nI q) := by
  unfold sy_pc
  by_cases h : i < 0
  · rw [if_pos h]
    exact Or.inl ⟨rfl, Or.inl h⟩
  · rw [if_neg h]
    obtain ⟨q, hq, rfl⟩ := nI_of h
    by_cases h2 : q < 8
    · have t : ¬ (8 : Int32) ≤ nI q := nI_ge (b := 8) h2 (by decide)
      rw [if_neg t]
      exact Or.inr ⟨rfl, q, h2, rfl⟩
    · have t : (8 : Int32) ≤ nI q := nI_le (a := 8) (by omega) hq
      have t2 : ¬ nI q < (8 : Int32) := nI_nlt (b := 8) (by omega) hq
      rw [if_pos t]
      exact Or.inl ⟨rfl, Or.inr ⟨h, t2⟩⟩
theorem sy_styleAt {post : Int32 → St2 → Prop} {g fl he bg x y i : Int32} {a1 a2 a3 a4 a5 : Nat → Int32} {c r : Nat} {b : Nat → Nat} (hR : sy_R c b r x y a2 a3) (hpl : ∀ q, q < 8 → i = nI q → b r ≤ q ∧ q < b (r + 1))
    (H : ∀ bg', post (if sy_pc i = 0 then -4 else y) (nI 8, g, nI c, fl, he, bg', a1, a2, a3, a4, a5)) : wpX_styleAt post (nI 8, g, nI c, fl, he, bg, a1, a2, a3, a4, a5) i := by
  obtain ⟨hP, hrc, hr1, hc2, hx⟩ := hR
  rcases sy_pcs i with ⟨h0, h⟩ | ⟨h0, q, hq, hi⟩
  · rw [h0, if_pos rfl] at H
    rcases h with h | ⟨h, h2⟩
    · exact br_t h (br_f (by decide) (H bg))
    · exact br_f h (br_f h2 (br_f (by decide) (H bg)))
  · rw [h0, if_neg (by decide)] at H
    have hp := hpl q hq hi
    subst hi
    refine br_f (nI_pos (by omega)) (br_t (nI_lt hq (by omega)) (br_t rfl ?_))
    refine sy_runAt (bg := bg) r hP (by omega) (by omega) hp.1 (fun _ => hp.2) ?_
    refine ⟨pk_in r 68 (by omega), ?_⟩
    rw [nI_clamp (by omega), hx r hrc, if_pos rfl]
    exact H _
theorem sy_runOf {post : Int32 → St2 → Prop} {g fl he bg x y i : Int32} {a1 a2 a3 a4 a5 : Nat → Int32} {c r : Nat} {b : Nat → Nat} (hR : sy_R c b r x y a2 a3) (hpl : ∀ q, q < 8 → i = nI q → b r ≤ q ∧ q < b (r + 1))
    (H : ∀ bg', post (if sy_pc i = 0 then -4 else nI r) (nI 8, g, nI c, fl, he, bg', a1, a2, a3, a4, a5)) : wpX_runOf post (nI 8, g, nI c, fl, he, bg, a1, a2, a3, a4, a5) i := by
  obtain ⟨hP, hrc, hr1, hc2, hx⟩ := hR
  rcases sy_pcs i with ⟨h0, h⟩ | ⟨h0, q, hq, hi⟩
  · rw [h0, if_pos rfl] at H
    rcases h with h | ⟨h, h2⟩
    · exact br_t h (br_f (by decide) (H bg))
    · exact br_f h (br_f h2 (br_f (by decide) (H bg)))
  · rw [h0, if_neg (by decide)] at H
    have hp := hpl q hq hi
    subst hi
    refine br_f (nI_pos (by omega)) (br_t (nI_lt hq (by omega)) (br_t rfl ?_))
    exact sy_runAt (bg := bg) r hP (by omega) (by omega) hp.1 (fun _ => hp.2) (H _)
theorem sy_begin {post : Int32 → Prop} {n g fl he bg : Int32} {a1 a2 a3 a4 a5 : Nat → Int32} {c : Nat} {b : Nat → Nat} (hP : sy_P c b a2) (hc : 1 ≤ c) (H : post (if c < 2 then -4 else nI (b 1))) : wpX_runBegin post (n, g, nI c, fl, he, bg, a1, a2, a3, a4, a5) 1 := by
  have hc8 := hP.1
  refine br_f (by decide) (pk_lt 1 c (fun z => ?_) (fun z => ?_))
  · rw [if_neg (by omega)] at H
    have t : 0 + a2 0 = nI (b 1) := by
      have t1 := sy_add hP (show 0 < c by omega)
      rw [hP.2.1] at t1
      exact t1
    exact ⟨2, br_f (by decide) ⟨pk_in 0 68 (by omega), nm_r (e' := nI (b 1)) t (nm_e (br_t (by decide) H))⟩⟩
  · rw [if_pos (by omega)] at H
    exact H
/-- the letters of the first k runs whose look has bit 1 -/
def sy_hv (b : Nat → Nat) (a3 : Nat → Int32) : Nat → Nat
  | 0 => 0
  | k + 1 => sy_hv b a3 k + (if a3 k &&& 1 = 1 then b (k + 1) - b k else 0)
theorem sy_having {post : Int32 → Prop} {n g fl he bg : Int32} {a1 a2 a3 a4 a5 : Nat → Int32} {c : Nat} {b : Nat → Nat} (hP : sy_P c b a2) (H : post (nI (sy_hv b a3 c))) : wpX_having post (n, g, nI c, fl, he, bg, a1, a2, a3, a4, a5) 1 := by
  have hc8 := hP.1
  have step : ∀ (f i : Nat) (u : Unit), i < c → True → (∀ u' : Unit, True → wX_having_16 post 1 n g (nI c) fl he bg a1 a2 a3 a4 a5 f (nI (sy_hv b a3 (i + 1))) (nI (i + 1))) → wX_having_16 post 1 n g (nI c) fl he bg a1 a2 a3 a4 a5 (f + 1) (nI (sy_hv b a3 i)) (nI i) := by
    intro f i _ hi _ hw
    have hw' := hw () trivial
    have ec : (nI i).toNatClampNeg = i := nI_clamp (by omega)
    have hin : vp_in (nI i) 68 := pk_in i 68 (by omega)
    have ha := (hP.2.2.2 i hi).2.2
    refine pk_le c i (fun z => absurd z (by omega)) (fun _ => ⟨hin, ?_⟩)
    rw [ec]
    refine br_c (fun z => ⟨hin, nm_r (e' := nI (sy_hv b a3 (i + 1))) ?_ (nm_r (nI_1 i) hw')⟩) (fun z => nm_r (nI_1 i) ?_)
    · have e : sy_hv b a3 (i + 1) = sy_hv b a3 i + (b (i + 1) - b i) := by
        show sy_hv b a3 i + (if a3 i &&& 1 = 1 then b (i + 1) - b i else 0) = _
        rw [if_pos z]
      rw [e, ha, nI_add]
    · have e : sy_hv b a3 (i + 1) = sy_hv b a3 i := by
        show sy_hv b a3 i + (if a3 i &&& 1 = 1 then b (i + 1) - b i else 0) = _
        rw [if_neg z, Nat.add_zero]
      rw [e] at hw'
      exact hw'
  have h := pk_loop (σ := Unit) (fun f i _ => wX_having_16 post 1 n g (nI c) fl he bg a1 a2 a3 a4 a5 f (nI (sy_hv b a3 i)) (nI i)) (fun _ _ => True) c 0 () (Nat.zero_le c) trivial (fun f _ _ => pk_le c c (fun _ => H) (fun z => absurd z (by omega))) step
  exact br_f (by decide) (br_t (by decide) h)
/-- the letters whose look has bit 1, of w with the look y and 8 - w with the look x -/
def sy_w (x y : Int32) (w : Nat) : Nat := (if y &&& 1 = 1 then w else 0) + (if x &&& 1 = 1 then 8 - w else 0)
theorem sy_hvR {c r : Nat} {b : Nat → Nat} {x y : Int32} {a2 a3 : Nat → Int32} (hR : sy_R c b r x y a2 a3) : sy_hv b a3 c = sy_w x y (b (r + 1) - b r) := by
  obtain ⟨hP, hrc, hr1, hc2, hx⟩ := hR
  have b0 := hP.2.1
  have b8 := hP.2.2.1
  unfold sy_w
  have hcase : (r = 0 ∧ c = 1) ∨ (r = 0 ∧ c = 2) ∨ (r = 1 ∧ c = 2) ∨ (r = 1 ∧ c = 3) := by omega
  rcases hcase with ⟨rfl, rfl⟩ | ⟨rfl, rfl⟩ | ⟨rfl, rfl⟩ | ⟨rfl, rfl⟩
  · have e0 : a3 0 = y := hx 0 (by omega)
    show 0 + (if a3 0 &&& 1 = 1 then b 1 - b 0 else 0) = (if y &&& 1 = 1 then b 1 - b 0 else 0) + (if x &&& 1 = 1 then 8 - (b 1 - b 0) else 0)
    rw [e0]
    split <;> split <;> omega
  · have e0 : a3 0 = y := hx 0 (by omega)
    have e1 : a3 1 = x := hx 1 (by omega)
    have h1 := (hP.2.2.2 0 (by omega)).1
    have h2 := (hP.2.2.2 1 (by omega)).1
    show 0 + (if a3 0 &&& 1 = 1 then b 1 - b 0 else 0) + (if a3 1 &&& 1 = 1 then b 2 - b 1 else 0) = (if y &&& 1 = 1 then b 1 - b 0 else 0) + (if x &&& 1 = 1 then 8 - (b 1 - b 0) else 0)
    rw [e0, e1]
    split <;> split <;> omega
  · have e0 : a3 0 = x := hx 0 (by omega)
    have e1 : a3 1 = y := hx 1 (by omega)
    have h1 : b 0 < b 1 := (hP.2.2.2 0 (by omega)).1
    have h2 : b 1 < b 2 := (hP.2.2.2 1 (by omega)).1
    show 0 + (if a3 0 &&& 1 = 1 then b 1 - b 0 else 0) + (if a3 1 &&& 1 = 1 then b 2 - b 1 else 0) = (if y &&& 1 = 1 then b 2 - b 1 else 0) + (if x &&& 1 = 1 then 8 - (b 2 - b 1) else 0)
    rw [e0, e1]
    split <;> split <;> omega
  · have e0 : a3 0 = x := hx 0 (by omega)
    have e1 : a3 1 = y := hx 1 (by omega)
    have e2 : a3 2 = x := hx 2 (by omega)
    have h1 : b 0 < b 1 := (hP.2.2.2 0 (by omega)).1
    have h2 : b 1 < b 2 := (hP.2.2.2 1 (by omega)).1
    have h3 : b 2 < b 3 := (hP.2.2.2 2 (by omega)).1
    show 0 + (if a3 0 &&& 1 = 1 then b 1 - b 0 else 0) + (if a3 1 &&& 1 = 1 then b 2 - b 1 else 0) + (if a3 2 &&& 1 = 1 then b 3 - b 2 else 0) = (if y &&& 1 = 1 then b 2 - b 1 else 0) + (if x &&& 1 = 1 then 8 - (b 2 - b 1) else 0)
    rw [e0, e1, e2]
    split <;> split <;> omega
/-- toggle's 'all', over the first k runs -/
def sy_al (a3 : Nat → Int32) (bit : Int32) : Nat → Int32
  | 0 => 1
  | k + 1 => if sy_al a3 bit k = 0 then 0 else if a3 k &&& bit = 0 then 0 else 1
/-- all letters have the bit -/
def sy_A (c : Nat) (x y bit : Int32) : Prop := ¬ y &&& bit = 0 ∧ (1 < c → ¬ x &&& bit = 0)
theorem sy_alS {a3 : Nat → Int32} {bit : Int32} {k : Nat} : sy_al a3 bit (k + 1) = 0 ↔ sy_al a3 bit k = 0 ∨ a3 k &&& bit = 0 := by
  show (if sy_al a3 bit k = 0 then (0 : Int32) else if a3 k &&& bit = 0 then 0 else 1) = 0 ↔ _
  by_cases h : sy_al a3 bit k = 0
  · rw [if_pos h]
    exact ⟨fun _ => Or.inl h, fun _ => rfl⟩
  · rw [if_neg h]
    by_cases h2 : a3 k &&& bit = 0
    · rw [if_pos h2]
      exact ⟨fun _ => Or.inr h2, fun _ => rfl⟩
    · rw [if_neg h2]
      exact ⟨fun z => absurd z (by decide), fun z => by rcases z with z | z; exact absurd z h; exact absurd z h2⟩
theorem sy_al0 {a3 : Nat → Int32} {bit : Int32} : ¬ sy_al a3 bit 0 = 0 := by
  show ¬ (1 : Int32) = 0
  decide
theorem sy_alR {c r : Nat} {b : Nat → Nat} {x y bit : Int32} {a2 a3 : Nat → Int32} (hR : sy_R c b r x y a2 a3) : sy_al a3 bit c = 0 ↔ ¬ sy_A c x y bit := by
  obtain ⟨hP, hrc, hr1, hc2, hx⟩ := hR
  unfold sy_A
  have hcase : (r = 0 ∧ c = 1) ∨ (r = 0 ∧ c = 2) ∨ (r = 1 ∧ c = 2) ∨ (r = 1 ∧ c = 3) := by omega
  have n0 : ¬ sy_al a3 bit 0 = 0 := sy_al0
  rcases hcase with ⟨rfl, rfl⟩ | ⟨rfl, rfl⟩ | ⟨rfl, rfl⟩ | ⟨rfl, rfl⟩
  · have e0 : a3 0 = y := hx 0 (by omega)
    rw [sy_alS, e0]
    by_cases p : y &&& bit = 0 <;> simp [p, n0]
  · have e0 : a3 0 = y := hx 0 (by omega)
    have e1 : a3 1 = x := hx 1 (by omega)
    rw [sy_alS, sy_alS, e0, e1]
    by_cases p : y &&& bit = 0 <;> by_cases q : x &&& bit = 0 <;> simp [p, q, n0]
  · have e0 : a3 0 = x := hx 0 (by omega)
    have e1 : a3 1 = y := hx 1 (by omega)
    rw [sy_alS, sy_alS, e0, e1]
    by_cases p : y &&& bit = 0 <;> by_cases q : x &&& bit = 0 <;> simp [p, q, n0]
  · have e0 : a3 0 = x := hx 0 (by omega)
    have e1 : a3 1 = y := hx 1 (by omega)
    have e2 : a3 2 = x := hx 2 (by omega)
    rw [sy_alS, sy_alS, sy_alS, e0, e1, e2]
    by_cases p : y &&& bit = 0 <;> by_cases q : x &&& bit = 0 <;> simp [p, q, n0]
theorem sy_tloop {post : Int32 → St2 → Prop} {g fl he bg bit : Int32} {a1 a2 a3 a4 a5 : Nat → Int32} {c : Nat} {b : Nat → Nat} (hP : sy_P c b a2) (H : wX_toggle_110 post (nI 0) (nI 8) bit (sy_al a3 bit c) (nI 8) g (nI c) fl he bg a1 a2 a3 a4 a5) : ∃ fu, wX_toggle_52 post (nI 0) (nI 8) bit (nI 8) g (nI c) fl he bg a1 a2 a3 a4 a5 fu (nI 0) (nI 0) 1 0 := by
  have hc8 := hP.1
  have stop : ∀ (f : Nat) (u : Unit), True → wX_toggle_52 post (nI 0) (nI 8) bit (nI 8) g (nI c) fl he bg a1 a2 a3 a4 a5 (f + 1) (nI c) (nI (b c)) (sy_al a3 bit c) (nI c) := fun f _ _ =>
    pk_le 64 c (fun z => absurd z (by omega)) (fun _ => pk_le 8 (b c) (fun _ => H) (fun z => absurd z (by have := hP.2.2.1; omega)) rfl rfl (by omega) (by have := hP.2.2.1; omega))
  have step : ∀ (f i : Nat) (u : Unit), i < c → True → (∀ u' : Unit, True → wX_toggle_52 post (nI 0) (nI 8) bit (nI 8) g (nI c) fl he bg a1 a2 a3 a4 a5 f (nI (i + 1)) (nI (b (i + 1))) (sy_al a3 bit (i + 1)) (nI (i + 1))) → wX_toggle_52 post (nI 0) (nI 8) bit (nI 8) g (nI c) fl he bg a1 a2 a3 a4 a5 (f + 1) (nI i) (nI (b i)) (sy_al a3 bit i) (nI i) := by
    intro f i _ hi _ hw
    have hw' := hw () trivial
    have ec : (nI i).toNatClampNeg = i := nI_clamp (by omega)
    have hin : vp_in (nI i) 68 := pk_in i 68 (by omega)
    have hb := hP.2.2.2 i hi
    have eb : nI (b i) + a2 (nI i).toNatClampNeg = nI (b (i + 1)) := by
      rw [ec]
      exact sy_add hP hi
    have go : ∀ z0, sy_al a3 bit (i + 1) = z0 → wX_toggle_87 post (wX_toggle_52 post (nI 0) (nI 8) bit (nI 8) g (nI c) fl he bg a1 a2 a3 a4 a5 f) (nI 0) (nI 8) bit (nI i) (nI (b i)) (nI i) z0 (nI 8) g (nI c) fl he bg a1 a2 a3 a4 a5 := by
      intro z0 hz
      rw [hz] at hw'
      exact ⟨hin, nm_r eb (nm_r (nI_1 i) (nm_r (nI_1 i) hw'))⟩
    refine pk_le 64 i (fun z => absurd z (by omega)) (fun _ => pk_le 8 (b i) (fun z => absurd z (by omega)) (fun _ => br_c (fun z => go 0 (if_pos z)) (fun z => ⟨hin, ?_⟩)) rfl rfl (by omega) (by omega))
    rw [ec]
    exact br_c (fun y => go 0 ((if_neg z).trans (if_pos y))) (fun y => go 1 ((if_neg z).trans (if_neg y)))
  have h := pk_loop (σ := Unit) (fun f i _ => wX_toggle_52 post (nI 0) (nI 8) bit (nI 8) g (nI c) fl he bg a1 a2 a3 a4 a5 f (nI i) (nI (b i)) (sy_al a3 bit i) (nI i)) (fun _ _ => True) c 0 () (Nat.zero_le c) trivial stop step
  obtain ⟨f, hf⟩ := h
  have hf' : wX_toggle_52 post (nI 0) (nI 8) bit (nI 8) g (nI c) fl he bg a1 a2 a3 a4 a5 f (nI 0) (nI (b 0)) 1 0 := hf
  rw [hP.2.1] at hf'
  exact ⟨f, hf'⟩
/-- what toggle leaves -/
def sy_T (c : Nat) (b : Nat → Nat) (r : Nat) (x y bit v : Int32) (c' : Nat) (b' : Nat → Nat) (r' : Nat) (x' y' : Int32) : Prop := sy_same c b r c' b' r' x' y' ∧
  (((bit = 1 ∨ bit = 2 ∨ bit = 4) ∧ sy_A c x y bit ∧ v = 0 ∧ x' = sy_mx x bit 0 ∧ y' = sy_mx y bit 0) ∨
   ((bit = 1 ∨ bit = 2 ∨ bit = 4) ∧ ¬ sy_A c x y bit ∧ v = 1 ∧ x' = sy_mx x bit bit ∧ y' = sy_mx y bit bit) ∨
   (¬ bit = 1 ∧ ¬ bit = 2 ∧ ¬ bit = 4 ∧ v = -1 ∧ x' = x ∧ y' = y))
theorem sy_toggle {post : Int32 → St2 → Prop} {g fl he bg bit x y : Int32} {a1 a2 a3 a4 a5 : Nat → Int32} {c r : Nat} {b : Nat → Nat} (hR : sy_R c b r x y a2 a3)
    (H : ∀ v c' b' r' x' y' bg' a2' a3', sy_R c' b' r' x' y' a2' a3' → sy_T c b r x y bit v c' b' r' x' y' → post v (nI 8, g, nI c', fl, he, bg', a1, a2', a3', a4, a5)) :
    wpX_toggle post (nI 8, g, nI c, fl, he, bg, a1, a2, a3, a4, a5) (nI 0) (nI 8) bit := by
  have hP := hR.1
  have hc1 := hR.2.1
  have hc8 := hP.1
  have hb1 := (hP.2.2.2 0 (by omega)).1
  have b0 := hP.2.1
  have core : (bit = 1 ∨ bit = 2 ∨ bit = 4) → wX_toggle_26 post (nI 0) (nI 8) bit (nI 8) g (nI c) fl he bg a1 a2 a3 a4 a5 := by
    intro hb
    have m0 : ¬ bit < 0 := by rcases hb with h | h | h <;> (rw [h]; decide)
    have m1 : ¬ 15 < bit := by rcases hb with h | h | h <;> (rw [h]; decide)
    have m2 : bit ≤ 63 := by rcases hb with h | h | h <;> (rw [h]; decide)
    refine br_f (by decide) (sy_runAt (bg := bg) 0 hP (by omega) (by omega) (by omega) (fun _ => by omega) ?_)
    rw [b0]
    refine sy_tloop hP ?_
    refine br_c (fun z => ?_) (fun z => ?_)
    · have hA : ¬ sy_A c x y bit := (sy_alR hR).mp z
      exact sy_style2 hR m0 m1 m0 m2 (fun ch c' b' r' bg' a2' a3' hR' hs => br_t z (H 1 c' b' r' _ _ bg' a2' a3' hR' ⟨hs, Or.inr (Or.inl ⟨hb, hA, rfl, rfl, rfl⟩)⟩))
    · have hA : sy_A c x y bit := Classical.byContradiction (fun h => z ((sy_alR hR).mpr h))
      exact sy_style2 hR m0 m1 (by decide) (by decide) (fun ch c' b' r' bg' a2' a3' hR' hs => br_f z (H 0 c' b' r' _ _ bg' a2' a3' hR' ⟨hs, Or.inl ⟨hb, hA, rfl, rfl, rfl⟩⟩))
  refine br_f (by decide) (br_f (by decide) (br_t (by decide) (br_t rfl ?_)))
  exact br_c (fun h => core (Or.inl h)) (fun h1 => br_c (fun h => core (Or.inr (Or.inl h))) (fun h2 => br_c (fun h => core (Or.inr (Or.inr h))) (fun h4 => H (-1) c b r x y bg a2 a3 hR ⟨Or.inl ⟨rfl, rfl, rfl⟩, Or.inr (Or.inr ⟨h1, h2, h4, rfl, rfl, rfl⟩)⟩)))
end
section
theorem sy_gap {post : St2 → Prop} {c fl he bg : Int32} {a1 a2 a3 a4 a5 : Nat → Int32} {k : Nat} (hk : k < 8) (H : ∀ a1', post (nI k, nI 0, c, fl, he, bg, a1', a2, a3, a4, a5)) : wpX_moveGap post (nI k, nI (min k 1), c, fl, he, bg, a1, a2, a3, a4, a5) (nI 0) := by
  by_cases h : k = 0
  · subst h
    exact nm_e (nm_e ⟨1, br_t (by decide) ⟨1, br_t (by decide) (H a1)⟩⟩)
  · have e : min k 1 = 1 := by omega
    rw [e]
    refine nm_r (e' := nI (64 - k)) (pk_sub (a := 64) (by omega)) (nm_r (e' := nI 0) (nI_pred 0) ⟨2, ?_⟩)
    have t : nI 0 + nI (64 - k) = nI (64 - k) := by rw [nI_add, Nat.zero_add]
    exact br_f (by decide) ⟨pk_in 0 64 (by omega), pk_in (64 - k) 64 (by omega) t, nm_e (nm_e (br_t (by decide) ⟨1, br_t (by decide) (H _)⟩))⟩
theorem sy_putL {post : St2 → Prop} {c fl he bg : Int32} {a1 a2 a3 a4 a5 : Nat → Int32} {k : Nat} (hk : k < 8) (H : ∀ a1', post (nI (k + 1), nI 1, c, fl, he, bg, a1', a2, a3, a4, a5)) : wpX_putLetter post (nI k, nI (min k 1), c, fl, he, bg, a1, a2, a3, a4, a5) (nI 0) 3 := by
  refine sy_gap hk (fun a1' => ?_)
  exact ⟨pk_in 0 64 (by omega), nm_e (nm_r (nI_1 0) (nm_r (nI_1 k) (H _)))⟩
theorem sy_insert {post : St2 → Prop} {he bg : Int32} {a1 a2 a3 a4 a5 : Nat → Int32} (H : ∀ a1' a2' a3', a2' 0 = nI 8 → a3' 0 = 13 → post (nI 8, nI 1, nI 1, 0, he, 0, a1', a2', a3', a4, a5)) : wpX_insert post (nI 0, nI 0, nI 0, 0, he, bg, a1, a2, a3, a4, a5) (nI 0) 3 (nI 8) 13 := by
  have stop : ∀ (f : Nat) (s : Nat → Int32), True → wX_insert_3 post (nI 0) 3 (nI 8) 13 (f + 1) (nI 8) (nI 8) (nI (min 8 1)) (nI 0) 0 he bg s a2 a3 a4 a5 := by
    intro f s _
    refine br_t (by decide) (br_f (by decide) ?_)
    refine ⟨1, br_t (by decide) (br_t (by decide) ?_)⟩
    refine sy_open (c := 0) (by omega) (fun a2' a3' _ _ _ _ => ⟨pk_in 0 68 (by omega), nm_e ⟨pk_in 0 68 (by omega), nm_e ?_⟩⟩)
    refine sy_joinN (c := 0 + 1) (by omega) (by omega) (fun k hk => absurd hk (by omega)) ?_
    refine br_t (by decide) (H _ _ _ ?_ ?_)
    · rw [sb_cl0, pk_us]
    · rw [sb_cl0, pk_us]
  have step : ∀ (f k : Nat) (s : Nat → Int32), k < 8 → True → (∀ s' : Nat → Int32, True → wX_insert_3 post (nI 0) 3 (nI 8) 13 f (nI (k + 1)) (nI (k + 1)) (nI (min (k + 1) 1)) (nI 0) 0 he bg s' a2 a3 a4 a5) → wX_insert_3 post (nI 0) 3 (nI 8) 13 (f + 1) (nI k) (nI k) (nI (min k 1)) (nI 0) 0 he bg s a2 a3 a4 a5 := by
    intro f k s hk _ hw
    rw [show min (k + 1) 1 = 1 by omega] at hw
    exact pk_le 8 k (fun z => absurd z (by omega)) (fun _ => sy_putL hk (fun a1' => nm_r (nI_1 k) (hw a1' trivial)))
  exact pk_loop (fun f k s => wX_insert_3 post (nI 0) 3 (nI 8) 13 f (nI k) (nI k) (nI (min k 1)) (nI 0) 0 he bg s a2 a3 a4 a5) (fun _ _ => True) 8 0 a1 (by omega) trivial stop step
theorem sy_put {post : Int32 → St2 → Prop} {he bg : Int32} {a1 a2 a3 a4 a5 : Nat → Int32} (H : ∀ r a1' a2' a3', a2' 0 = nI 8 → a3' 0 = 13 → post r (nI 8, nI 1, nI 1, 0, he, 0, a1', a2', a3', a4, a5)) : wpX_put post (0, 0, 0, 0, he, bg, a1, a2, a3, a4, a5) 0 3 8 13 := by
  refine br_f (by decide) (br_t (by decide) (br_t rfl (br_f (by decide) (br_f (by decide) (br_f (by decide) (br_f (by decide) (br_f (by decide) (br_t (by decide) (br_t (by decide) ?_)))))))))
  exact sy_insert (fun a1' a2' a3' h2 h3 => H _ a1' a2' a3' h2 h3)
end
section
/-! the law's flags and expected answers, as functions of the ints -/
def sy_dn (i j m s : Int32) : Int32 := if i < 0 then 0 else if j < i then 0 else if 8 < j then 0 else if m < 0 then 0 else if 15 < m then 0 else if s < 0 then 0 else if 63 < s then 0 else 1
def sy_pt (m : Int32) : Int32 := if 8 ≤ m then (m &&& 7) + 56 else m
def sy_sl (dn m s : Int32) : Int32 := if dn = 0 then 13 else (13 &&& (sy_pt m ^^^ (-1))) ||| (s &&& sy_pt m)
def sy_df (dn sl i j : Int32) : Int32 := if dn = 0 then 0 else if sl = 13 then 0 else if j ≤ i then 0 else 1
def sy_hr (i j sl : Int32) : Int32 := if j ≤ i then 13 else sl
def sy_bs (t : Int32) : Int32 := if t = 1 then 1 else if t = 2 then 1 else if t = 4 then 1 else 0
def sy_wh (i j : Int32) : Int32 := if i = 0 then (if j = 8 then 1 else 0) else 0
def sy_fa (bs df sl t wh : Int32) : Int32 := if bs = 0 then 0 else if df = 0 then (if 13 &&& t = 0 then 0 else 1) else if sl &&& t = 0 then 0 else if wh = 0 then (if 13 &&& t = 0 then 0 else 1) else 1
def sy_pn (df i j : Int32) : Int32 := if df = 0 then 1 else ((if i ≤ 0 then 0 else 1) + 1) + (if 8 ≤ j then 0 else 1)
def sy_mn (bs fa : Int32) : Int32 := if bs = 0 then 0 else if fa = 0 then 1 else 0
def sy_sh (bs fa hr t : Int32) : Int32 := if bs = 0 then hr else if fa = 0 then hr ||| t else hr &&& (t ^^^ (-1))
def sy_on (t fa df sl i j : Int32) : Int32 := if t = 1 then (if fa = 0 then 8 else 0) else if df = 0 then 8 else if sl &&& 1 = 0 then 8 - (j - i) else 8
section
variable {post : Int32 → St0 → Prop} {mc ms kc ks : Nat} {x0 x1 x2 x3 x4 x6 x7 x8 x9 x10 x11 x12 x13 x15 x17 x18 x19 x20 x21 x23 x24 x25 x26 x27 z0 z1 : Int32}
theorem sy_t600 (h12 : z1 = z0) (h13 : x13 = x27) (H : post 1 ()) : wL_lawOf_600 post mc ms x13 x27 z0 z1 kc ks :=
  br_t h12 (br_t h13 H)
theorem sy_t583 (h11 : z1 = z0) (h12 : x12 = if x19 = 0 then -4 else x26) (h13 : x13 = x27) (H : post 1 ()) : wL_lawOf_583 post mc ms x12 x13 x19 x26 x27 z0 z1 kc ks :=
  br_t h11 (br_c (fun z => sy_t600 (by rw [h12, if_pos z]) h13 H) (fun z => sy_t600 (by rw [h12, if_neg z]) h13 H))
theorem sy_t567 (h10 : z1 = z0) (h11 : x11 = if x21 = 0 then -1 else x25) (h12 : x12 = if x19 = 0 then -4 else x26) (h13 : x13 = x27) (H : post 1 ()) : wL_lawOf_567 post mc ms x11 x12 x13 x19 x21 x25 x26 x27 z0 z1 kc ks :=
  br_t h10 (br_c (fun z => sy_t583 (by rw [h11, if_pos z]) h12 h13 H) (fun z => sy_t583 (by rw [h11, if_neg z]) h12 h13 H))
theorem sy_t542 (h9 : z1 = z0) (h10 : x10 = if 2 ≤ x24 then (if x0 ≤ 0 then x1 else x0) else -4) (h11 : x11 = if x21 = 0 then -1 else x25) (h12 : x12 = if x19 = 0 then -4 else x26) (h13 : x13 = x27) (H : post 1 ()) : wL_lawOf_542 post mc ms x0 x1 x10 x11 x12 x13 x19 x21 x24 x25 x26 x27 z0 z1 kc ks :=
  br_t h9 (br_c (fun z => br_c (fun y => sy_t567 (by rw [h10, if_pos z, if_pos y]) h11 h12 h13 H) (fun y => sy_t567 (by rw [h10, if_pos z, if_neg y]) h11 h12 h13 H)) (fun z => sy_t567 (by rw [h10, if_neg z]) h11 h12 h13 H))
theorem sy_t506 (h7 : z1 = z0) (h8 : x8 = x24) (h9 : x9 = if x19 = 0 then -4 else if x18 = 0 then 0 else if x0 ≤ 0 then 0 else 1) (h10 : x10 = if 2 ≤ x24 then (if x0 ≤ 0 then x1 else x0) else -4) (h11 : x11 = if x21 = 0 then -1 else x25) (h12 : x12 = if x19 = 0 then -4 else x26) (h13 : x13 = x27) (H : post 1 ()) : wL_lawOf_506 post mc ms x0 x1 x8 x9 x10 x11 x12 x13 x18 x19 x21 x24 x25 x26 x27 z0 z1 kc ks :=
  br_t h7 (br_t h8 (br_c (fun z => sy_t542 (by rw [h9, if_pos z]) h10 h11 h12 h13 H) (fun z => br_c (fun y => sy_t542 (by rw [h9, if_neg z, if_pos y]) h10 h11 h12 h13 H) (fun y => br_c (fun w => sy_t542 (by rw [h9, if_neg z, if_neg y, if_pos w]) h10 h11 h12 h13 H) (fun w => sy_t542 (by rw [h9, if_neg z, if_neg y, if_neg w]) h10 h11 h12 h13 H)))))
theorem sy_t489 (h6 : z1 = z0) (h7 : x7 = if x19 = 0 then -4 else x20) (h8 : x8 = x24) (h9 : x9 = if x19 = 0 then -4 else if x18 = 0 then 0 else if x0 ≤ 0 then 0 else 1) (h10 : x10 = if 2 ≤ x24 then (if x0 ≤ 0 then x1 else x0) else -4) (h11 : x11 = if x21 = 0 then -1 else x25) (h12 : x12 = if x19 = 0 then -4 else x26) (h13 : x13 = x27) (H : post 1 ()) : wL_lawOf_489 post mc ms x0 x1 x7 x8 x9 x10 x11 x12 x13 x18 x19 x20 x21 x24 x25 x26 x27 z0 z1 kc ks :=
  br_t h6 (br_c (fun z => sy_t506 (by rw [h7, if_pos z]) h8 h9 h10 h11 h12 h13 H) (fun z => sy_t506 (by rw [h7, if_neg z]) h8 h9 h10 h11 h12 h13 H))
theorem sy_t464 (h6 : x6 = if x15 = 0 then -1 else if x18 = 0 then 0 else x1 - x0) (h7 : x7 = if x19 = 0 then -4 else x20) (h8 : x8 = x24) (h9 : x9 = if x19 = 0 then -4 else if x18 = 0 then 0 else if x0 ≤ 0 then 0 else 1) (h10 : x10 = if 2 ≤ x24 then (if x0 ≤ 0 then x1 else x0) else -4) (h11 : x11 = if x21 = 0 then -1 else x25) (h12 : x12 = if x19 = 0 then -4 else x26) (h13 : x13 = z0) (H : post 1 ()) : wL_lawOf_464 post mc ms x0 x1 x6 x7 x8 x9 x10 x11 x12 x13 x15 x18 x19 x20 x21 x24 x25 x26 z0 kc ks :=
  br_c (fun z => sy_t489 (by rw [h6, if_pos z]) h7 h8 h9 h10 h11 h12 h13 H) (fun z => br_c (fun y => sy_t489 (by rw [h6, if_neg z, if_pos y]) h7 h8 h9 h10 h11 h12 h13 H) (fun y => sy_t489 (by rw [h6, if_neg z, if_neg y]) h7 h8 h9 h10 h11 h12 h13 H))
theorem sy_t419 (H : wL_lawOf_464 post mc ms x0 x1 x6 x7 x8 x9 x10 x11 x12 x13 x15 x18 x19 x20 x21 x24 x25 z0 (sy_on x4 x23 x18 x17 x0 x1) kc ks) : wL_lawOf_419 post mc ms x0 x1 x4 x6 x7 x8 x9 x10 x11 x12 x13 x15 x17 x18 x19 x20 x21 x23 x24 x25 z0 kc ks :=
  br_c (fun w0 => br_c (fun w1 => (by rw [sy_on, if_pos w0, if_pos w1] at H; exact H)) (fun w1 => (by rw [sy_on, if_pos w0, if_neg w1] at H; exact H))) (fun w0 => br_c (fun w1 => (by rw [sy_on, if_neg w0, if_pos w1] at H; exact H)) (fun w1 => br_c (fun w2 => (by rw [sy_on, if_neg w0, if_neg w1, if_pos w2] at H; exact H)) (fun w2 => (by rw [sy_on, if_neg w0, if_neg w1, if_neg w2] at H; exact H))))
theorem sy_t387 (H : wL_lawOf_419 post mc ms x0 x1 x4 x6 x7 x8 x9 x10 x11 x12 x13 x15 x17 x18 x19 x20 x21 x23 x24 z0 (sy_sh x21 x23 x20 x4) kc ks) : wL_lawOf_387 post mc ms x0 x1 x4 x6 x7 x8 x9 x10 x11 x12 x13 x15 x17 x18 x19 x20 x21 x23 x24 z0 kc ks :=
  br_c (fun w0 => (by rw [sy_sh, if_pos w0] at H; exact H)) (fun w0 => br_c (fun w1 => (by rw [sy_sh, if_neg w0, if_pos w1] at H; exact H)) (fun w1 => (by rw [sy_sh, if_neg w0, if_neg w1] at H; exact H)))
theorem sy_t366 (H : wL_lawOf_387 post mc ms x0 x1 x4 x6 x7 x8 x9 x10 x11 x12 x13 x15 x17 x18 x19 x20 x21 x23 z0 (sy_mn x21 x23) kc ks) : wL_lawOf_366 post mc ms x0 x1 x4 x6 x7 x8 x9 x10 x11 x12 x13 x15 x17 x18 x19 x20 x21 x23 z0 kc ks :=
  br_c (fun w0 => (by rw [sy_mn, if_pos w0] at H; exact H)) (fun w0 => br_c (fun w1 => (by rw [sy_mn, if_neg w0, if_pos w1] at H; exact H)) (fun w1 => (by rw [sy_mn, if_neg w0, if_neg w1] at H; exact H)))
theorem sy_t332 (H : wL_lawOf_366 post mc ms x0 x1 x4 x6 x7 x8 x9 x10 x11 x12 x13 x15 x17 x18 x19 x20 x21 z0 (sy_pn x18 x0 x1) kc ks) : wL_lawOf_332 post mc ms x0 x1 x4 x6 x7 x8 x9 x10 x11 x12 x13 x15 x17 x18 x19 x20 x21 z0 kc ks :=
  br_c (fun w0 => (by rw [sy_pn, if_pos w0] at H; exact H)) (fun w0 => br_c (fun w1 => br_c (fun w2 => (by rw [sy_pn, if_neg w0, if_pos w1, if_pos w2] at H; exact H)) (fun w2 => (by rw [sy_pn, if_neg w0, if_pos w1, if_neg w2] at H; exact H))) (fun w1 => br_c (fun w2 => (by rw [sy_pn, if_neg w0, if_neg w1, if_pos w2] at H; exact H)) (fun w2 => (by rw [sy_pn, if_neg w0, if_neg w1, if_neg w2] at H; exact H))))
theorem sy_t283 (H : wL_lawOf_332 post mc ms x0 x1 x4 x6 x7 x8 x9 x10 x11 x12 x13 x15 x17 x18 x19 x20 x21 (sy_fa x21 x18 x17 x4 z0) kc ks) : wL_lawOf_283 post mc ms x0 x1 x4 x6 x7 x8 x9 x10 x11 x12 x13 x15 x17 x18 x19 x20 x21 z0 kc ks :=
  br_c (fun w0 => (by rw [sy_fa, if_pos w0] at H; exact H)) (fun w0 => br_c (fun w1 => br_c (fun w2 => (by rw [sy_fa, if_neg w0, if_pos w1, if_pos w2] at H; exact H)) (fun w2 => (by rw [sy_fa, if_neg w0, if_pos w1, if_neg w2] at H; exact H))) (fun w1 => br_c (fun w2 => (by rw [sy_fa, if_neg w0, if_neg w1, if_pos w2] at H; exact H)) (fun w2 => br_c (fun w3 => br_c (fun w4 => (by rw [sy_fa, if_neg w0, if_neg w1, if_neg w2, if_pos w3, if_pos w4] at H; exact H)) (fun w4 => (by rw [sy_fa, if_neg w0, if_neg w1, if_neg w2, if_pos w3, if_neg w4] at H; exact H))) (fun w3 => (by rw [sy_fa, if_neg w0, if_neg w1, if_neg w2, if_neg w3] at H; exact H)))))
theorem sy_t266 (H : wL_lawOf_283 post mc ms x0 x1 x4 x6 x7 x8 x9 x10 x11 x12 x13 x15 x17 x18 x19 x20 z0 (sy_wh x0 x1) kc ks) : wL_lawOf_266 post mc ms x0 x1 x4 x6 x7 x8 x9 x10 x11 x12 x13 x15 x17 x18 x19 x20 z0 kc ks :=
  br_c (fun w0 => br_c (fun w1 => (by rw [sy_wh, if_pos w0, if_pos w1] at H; exact H)) (fun w1 => (by rw [sy_wh, if_pos w0, if_neg w1] at H; exact H))) (fun w0 => (by rw [sy_wh, if_neg w0] at H; exact H))
theorem sy_t241 (H : wL_lawOf_266 post mc ms x0 x1 x4 x6 x7 x8 x9 x10 x11 x12 x13 x15 x17 x18 x19 z0 (sy_bs x4) kc ks) : wL_lawOf_241 post mc ms x0 x1 x4 x6 x7 x8 x9 x10 x11 x12 x13 x15 x17 x18 x19 z0 kc ks :=
  br_c (fun w0 => (by rw [sy_bs, if_pos w0] at H; exact H)) (fun w0 => br_c (fun w1 => (by rw [sy_bs, if_neg w0, if_pos w1] at H; exact H)) (fun w1 => br_c (fun w2 => (by rw [sy_bs, if_neg w0, if_neg w1, if_pos w2] at H; exact H)) (fun w2 => (by rw [sy_bs, if_neg w0, if_neg w1, if_neg w2] at H; exact H))))
theorem sy_t227 (H : wL_lawOf_241 post mc ms x0 x1 x4 x6 x7 x8 x9 x10 x11 x12 x13 x15 x17 x18 z0 (sy_hr x0 x1 x17) kc ks) : wL_lawOf_227 post mc ms x0 x1 x4 x6 x7 x8 x9 x10 x11 x12 x13 x15 x17 x18 z0 kc ks :=
  br_c (fun w0 => (by rw [sy_hr, if_pos w0] at H; exact H)) (fun w0 => (by rw [sy_hr, if_neg w0] at H; exact H))
theorem sy_t210 (H : wL_lawOf_227 post mc ms x0 x1 x4 x6 x7 x8 x9 x10 x11 x12 x13 x15 x17 z0 (sy_pc x0) kc ks) : wL_lawOf_210 post mc ms x0 x1 x4 x6 x7 x8 x9 x10 x11 x12 x13 x15 x17 z0 kc ks :=
  br_c (fun w0 => (by rw [sy_pc, if_pos w0] at H; exact H)) (fun w0 => br_c (fun w1 => (by rw [sy_pc, if_neg w0, if_pos w1] at H; exact H)) (fun w1 => (by rw [sy_pc, if_neg w0, if_neg w1] at H; exact H)))
theorem sy_t186 (H : wL_lawOf_210 post mc ms x0 x1 x4 x6 x7 x8 x9 x10 x11 x12 x13 x15 z0 (sy_df x15 z0 x0 x1) kc ks) : wL_lawOf_186 post mc ms x0 x1 x4 x6 x7 x8 x9 x10 x11 x12 x13 x15 z0 kc ks :=
  br_c (fun w0 => (by rw [sy_df, if_pos w0] at H; exact H)) (fun w0 => br_c (fun w1 => (by rw [sy_df, if_neg w0, if_pos w1] at H; exact H)) (fun w1 => br_c (fun w2 => (by rw [sy_df, if_neg w0, if_neg w1, if_pos w2] at H; exact H)) (fun w2 => (by rw [sy_df, if_neg w0, if_neg w1, if_neg w2] at H; exact H))))
theorem sy_t143 (H : wL_lawOf_186 post mc ms x0 x1 x4 x6 x7 x8 x9 x10 x11 x12 x13 z0 (sy_sl z0 x2 x3) kc ks) : wL_lawOf_143 post mc ms x0 x1 x2 x3 x4 x6 x7 x8 x9 x10 x11 x12 x13 z0 kc ks := by
  have K : ∀ p, sy_pt x2 = p → wL_lawOf_162 post mc ms x0 x1 x3 x4 x6 x7 x8 x9 x10 x11 x12 x13 z0 p kc ks := fun p hp => by
    rw [sy_sl, hp] at H
    exact br_c (fun w => by rw [if_pos w] at H; exact H) (fun w => by rw [if_neg w] at H; exact H)
  exact br_c (fun w => K _ (by rw [sy_pt, if_pos w])) (fun w => K _ (by rw [sy_pt, if_neg w]))
theorem sy_top (H : wL_lawOf_143 post mc ms x0 x1 x2 x3 x4 x6 x7 x8 x9 x10 x11 x12 x13 (sy_dn x0 x1 x2 x3) kc ks) : ((x0 < 0 → (wL_lawOf_110 post mc ms x0 x1 x2 x3 x4 x6 x7 x8 x9 x10 x11 x12 x13 kc ks)) ∧ (¬ x0 < 0 → (((x1 < x0 → (wL_lawOf_110 post mc ms x0 x1 x2 x3 x4 x6 x7 x8 x9 x10 x11 x12 x13 kc ks)) ∧ (¬ x1 < x0 → (((8 < x1 → (wL_lawOf_110 post mc ms x0 x1 x2 x3 x4 x6 x7 x8 x9 x10 x11 x12 x13 kc ks)) ∧ (¬ 8 < x1 → (wL_lawOf_111 post mc ms x0 x1 x2 x3 x4 x6 x7 x8 x9 x10 x11 x12 x13 1 kc ks))))))))) :=
  br_c (fun w0 => br_t rfl (by rw [sy_dn, if_pos w0] at H; exact H)) (fun w0 => br_c (fun w1 => br_t rfl (by rw [sy_dn, if_neg w0, if_pos w1] at H; exact H)) (fun w1 => br_c (fun w2 => br_t rfl (by rw [sy_dn, if_neg w0, if_neg w1, if_pos w2] at H; exact H)) (fun w2 => (by rw [sy_dn, if_neg w0, if_neg w1, if_neg w2] at H; exact br_f (by decide) (br_c (fun w3 => by rw [if_pos w3] at H; exact H) (fun w3 => br_c (fun w4 => by rw [if_neg w3, if_pos w4] at H; exact H) (fun w4 => br_c (fun w5 => by rw [if_neg w3, if_neg w4, if_pos w5] at H; exact H) (fun w5 => br_c (fun w6 => by rw [if_neg w3, if_neg w4, if_neg w5, if_pos w6] at H; exact H) (fun w6 => by rw [if_neg w3, if_neg w4, if_neg w5, if_neg w6] at H; exact H)))))))))
/-- the law answers true where each answer is as its formula says -/
theorem sy_tree {dn sl df hr bs fa pn : Int32} (e1 : dn = sy_dn x0 x1 x2 x3) (e2 : sl = sy_sl dn x2 x3) (e3 : df = sy_df dn sl x0 x1) (e4 : hr = sy_hr x0 x1 sl) (e5 : bs = sy_bs x4) (e6 : fa = sy_fa bs df sl x4 (sy_wh x0 x1)) (e7 : pn = sy_pn df x0 x1)
    (h6 : x6 = if dn = 0 then -1 else if df = 0 then 0 else x1 - x0)
    (h7 : x7 = if sy_pc x0 = 0 then -4 else hr) (h8 : x8 = pn)
    (h9 : x9 = if sy_pc x0 = 0 then -4 else if df = 0 then 0 else if x0 ≤ 0 then 0 else 1)
    (h10 : x10 = if 2 ≤ pn then (if x0 ≤ 0 then x1 else x0) else -4)
    (h11 : x11 = if bs = 0 then -1 else sy_mn bs fa)
    (h12 : x12 = if sy_pc x0 = 0 then -4 else sy_sh bs fa hr x4)
    (h13 : x13 = sy_on x4 fa df sl x0 x1) (H : post 1 ()) : ((x0 < 0 → (wL_lawOf_110 post mc ms x0 x1 x2 x3 x4 x6 x7 x8 x9 x10 x11 x12 x13 kc ks)) ∧ (¬ x0 < 0 → (((x1 < x0 → (wL_lawOf_110 post mc ms x0 x1 x2 x3 x4 x6 x7 x8 x9 x10 x11 x12 x13 kc ks)) ∧ (¬ x1 < x0 → (((8 < x1 → (wL_lawOf_110 post mc ms x0 x1 x2 x3 x4 x6 x7 x8 x9 x10 x11 x12 x13 kc ks)) ∧ (¬ 8 < x1 → (wL_lawOf_111 post mc ms x0 x1 x2 x3 x4 x6 x7 x8 x9 x10 x11 x12 x13 1 kc ks))))))))) := by
  subst e1 e2 e3 e4 e5 e6 e7
  exact sy_top (sy_t143 (sy_t186 (sy_t210 (sy_t227 (sy_t241 (sy_t266 (sy_t283 (sy_t332 (sy_t366 (sy_t387 (sy_t419 (sy_t464 h6 h7 h8 h9 h10 h11 h12 h13 H))))))))))))
end
end
section
/-! closed facts -/
theorem sy_k0 : ∀ M, M < 16 → sy_pt (nI M) = if nI M < 8 then nI M &&& 7 else (nI M &&& 7) ||| 56 := by decide +kernel
theorem sy_k1 : ∀ u, u < 64 → sy_mx (nI u) 1 0 = sy_sh 1 1 (nI u) 1 ∧ sy_mx (nI u) 2 0 = sy_sh 1 1 (nI u) 2 ∧ sy_mx (nI u) 4 0 = sy_sh 1 1 (nI u) 4 := by decide +kernel
theorem sy_k2 : ∀ u, u < 64 → sy_mx (nI u) 1 1 = sy_sh 1 0 (nI u) 1 ∧ sy_mx (nI u) 2 2 = sy_sh 1 0 (nI u) 2 ∧ sy_mx (nI u) 4 4 = sy_sh 1 0 (nI u) 4 := by decide +kernel
theorem sy_k3 : ∀ u, u < 64 → ¬ sy_mx (nI u) 1 0 &&& 1 = 1 ∧ sy_mx (nI u) 1 1 &&& 1 = 1 := by decide +kernel
theorem sy_k4 : ∀ u, u < 64 → (sy_mx (nI u) 2 0 &&& 1 = nI u &&& 1 ∧ sy_mx (nI u) 2 2 &&& 1 = nI u &&& 1) ∧ (sy_mx (nI u) 4 0 &&& 1 = nI u &&& 1 ∧ sy_mx (nI u) 4 4 &&& 1 = nI u &&& 1) := by decide +kernel
theorem sy_k5 : ∀ u, u < 64 → nI u &&& 1 = 0 ∨ nI u &&& 1 = 1 := by decide +kernel
theorem sy_k6 : ∀ M, M < 16 → ∀ S, S < 64 → (sy_mx 13 (nI M) (nI S)).toNatClampNeg < 64 ∧ sy_mx 13 (nI M) (nI S) = nI (sy_mx 13 (nI M) (nI S)).toNatClampNeg := by decide +kernel
theorem sy_k7 : ∀ J, J < 9 → ∀ I, I < J → nI ((if I = 0 then 0 else 1) + 1 + (if J = 8 then 0 else 1)) = sy_pn 1 (nI I) (nI J) := by decide +kernel
theorem sy_k8 : ∀ I, I < 9 → nI (if I = 0 then 0 else 1) = if nI I ≤ 0 then 0 else 1 := by decide +kernel
theorem sy_k9 : ∀ J, J < 9 → ∀ I, I < J → (if (if I = 0 then 0 else 1) + 1 + (if J = 8 then 0 else 1) < 2 then (-4 : Int32) else nI (if I = 0 then J else I)) = if 2 ≤ sy_pn 1 (nI I) (nI J) then (if nI I ≤ 0 then nI J else nI I) else -4 := by decide +kernel
theorem sy_k10 : ∀ J, J < 9 → ∀ I, I < J → (sy_wh (nI I) (nI J) = 0 ↔ 1 < (if I = 0 then 0 else 1) + 1 + (if J = 8 then 0 else 1)) := by decide +kernel
theorem sy_slmx {M : Nat} {s : Int32} (h : M < 16) : sy_sl 1 (nI M) s = sy_mx 13 (nI M) s := by
  rw [sy_sl, if_neg (by decide), sy_k0 M h, sy_mx]
  split <;> rfl
/-! what style leaves and answers -/
def sy_F (i j m s r52 : Int32) (c : Nat) (b : Nat → Nat) (r : Nat) (y : Int32) : Prop :=
  (sy_df (sy_dn i j m s) (sy_sl (sy_dn i j m s) m s) i j = 0 ∧ sy_hr i j (sy_sl (sy_dn i j m s) m s) = 13 ∧ r52 = (if sy_dn i j m s = 0 then -1 else 0) ∧ c = 1 ∧ b = sy_b1 ∧ r = 0 ∧ y = 13) ∨
  (∃ I J, i = nI I ∧ j = nI J ∧ I < J ∧ J ≤ 8 ∧ sy_dn i j m s = 1 ∧ sy_sl 1 m s = y ∧ ¬ y = 13 ∧ (∃ u, u < 64 ∧ y = nI u) ∧ c = (if I = 0 then 0 else 1) + 1 + (if J = 8 then 0 else 1) ∧ r = (if I = 0 then 0 else 1) ∧ b r = I ∧ b (r + 1) = J ∧ r52 = nI (J - I))
theorem sy_F0 {i j m s : Int32} (h : sy_dn i j m s = 0) : sy_F i j m s (-1) 1 sy_b1 0 13 := by
  refine Or.inl ⟨?_, ?_, ?_, rfl, rfl, rfl, rfl⟩
  · rw [h]
    exact if_pos rfl
  · rw [h]
    show (if j ≤ i then (13 : Int32) else 13) = 13
    split <;> rfl
  · rw [h, if_pos rfl]
theorem sy_F1 {i j m s : Int32} (h : sy_dn i j m s = 1) (h2 : j ≤ i ∨ sy_sl 1 m s = 13) : sy_F i j m s 0 1 sy_b1 0 13 := by
  refine Or.inl ⟨?_, ?_, ?_, rfl, rfl, rfl, rfl⟩
  · rw [h, sy_df, if_neg (by decide)]
    by_cases e : sy_sl 1 m s = 13
    · rw [if_pos e]
    · rw [if_neg e]
      rcases h2 with h2 | h2
      · rw [if_pos h2]
      · exact absurd h2 e
  · rw [h, sy_hr]
    by_cases e : j ≤ i
    · rw [if_pos e]
    · rw [if_neg e]
      rcases h2 with h2 | h2
      · exact absurd h2 e
      · exact h2
  · rw [h, if_neg (by decide)]
theorem sy_R1 {a2 a3 : Nat → Int32} (hP : sy_P 1 sy_b1 a2) (hx : a3 0 = 13) : sy_R 1 sy_b1 0 13 13 a2 a3 := by
  refine ⟨hP, by omega, by omega, by omega, fun k hk => ?_⟩
  rw [show k = 0 by omega, if_pos rfl]
  exact hx
theorem sy_styleC {post : Int32 → St2 → Prop} {g fl he bg i j m s : Int32} {a1 a2 a3 a4 a5 : Nat → Int32} (hP : sy_P 1 sy_b1 a2) (hx : a3 0 = 13)
    (H : ∀ r52 c b r y bg' a2' a3', sy_R c b r 13 y a2' a3' → sy_F i j m s r52 c b r y → post r52 (nI 8, g, nI c, fl, he, bg', a1, a2', a3', a4, a5)) :
    wpX_style post (nI 8, g, nI 1, fl, he, bg, a1, a2, a3, a4, a5) i j m s := by
  have h0 : sy_dn i j m s = 0 → post (-1) (nI 8, g, nI 1, fl, he, bg, a1, a2, a3, a4, a5) := fun h => H (-1) 1 sy_b1 0 13 bg a2 a3 (sy_R1 hP hx) (sy_F0 h)
  by_cases w0 : i < 0
  · exact br_t w0 (br_f (by decide) (h0 (by rw [sy_dn, if_pos w0])))
  by_cases w1 : j < i
  · exact br_f w0 (br_t w1 (br_f (by decide) (h0 (by rw [sy_dn, if_neg w0, if_pos w1]))))
  by_cases w2 : 8 < j
  · have t : ¬ j ≤ nI 8 := Int32.not_le.mpr w2
    exact br_f w0 (br_f w1 (br_f t (br_f (by decide) (h0 (by rw [sy_dn, if_neg w0, if_neg w1, if_pos w2])))))
  have t2 : j ≤ nI 8 := Int32.not_lt.mp w2
  by_cases w3 : m < 0
  · exact br_f w0 (br_f w1 (br_t t2 (br_t rfl (br_t w3 (h0 (by rw [sy_dn, if_neg w0, if_neg w1, if_neg w2, if_pos w3]))))))
  by_cases w4 : 15 < m
  · exact br_f w0 (br_f w1 (br_t t2 (br_t rfl (br_f w3 (br_t w4 (h0 (by rw [sy_dn, if_neg w0, if_neg w1, if_neg w2, if_neg w3, if_pos w4])))))))
  by_cases w5 : s < 0
  · exact br_f w0 (br_f w1 (br_t t2 (br_t rfl (br_f w3 (br_f w4 (br_t w5 (h0 (by rw [sy_dn, if_neg w0, if_neg w1, if_neg w2, if_neg w3, if_neg w4, if_pos w5]))))))))
  by_cases w6 : 63 < s
  · have t : ¬ s ≤ 63 := Int32.not_le.mpr w6
    exact br_f w0 (br_f w1 (br_t t2 (br_t rfl (br_f w3 (br_f w4 (br_f w5 (br_f t (h0 (by rw [sy_dn, if_neg w0, if_neg w1, if_neg w2, if_neg w3, if_neg w4, if_neg w5, if_pos w6])))))))))
  have t6 : s ≤ 63 := Int32.not_lt.mp w6
  have hd : sy_dn i j m s = 1 := by rw [sy_dn, if_neg w0, if_neg w1, if_neg w2, if_neg w3, if_neg w4, if_neg w5, if_neg w6]
  by_cases w7 : i = j
  · exact br_f w0 (br_f w1 (br_t t2 (br_t rfl (br_f w3 (br_f w4 (br_f w5 (br_t t6 (br_t w7 (H 0 1 sy_b1 0 13 bg a2 a3 (sy_R1 hP hx) (sy_F1 hd (Or.inl (by rw [w7]; exact Int32.le_refl j)))))))))))) 
  have hj0 : ¬ j < 0 := fun h => w1 (Int32.lt_of_lt_of_le h (Int32.not_lt.mp w0))
  obtain ⟨J, hJ, eJ⟩ := nI_of2 (M := nI 8) (n := 8) (by decide) hj0 t2
  obtain ⟨I, hI, eI⟩ := nI_of w0
  obtain ⟨M, hM, eM⟩ := nI_of2 (M := 15) (n := 15) (by decide) w3 (Int32.not_lt.mp w4)
  obtain ⟨S, hS, eS⟩ := nI_of2 (M := 63) (n := 63) (by decide) w5 t6
  have hIJ : I < J := by
    rw [eI, eJ, nI_ltI (by omega) hI] at w1
    rw [eI, eJ, nI_eq hI (by omega)] at w7
    omega
  have hsl : sy_sl 1 m s = sy_mx 13 m s := by
    rw [eM]
    exact sy_slmx (by omega)
  have hu : ∃ u, u < 64 ∧ sy_mx 13 m s = nI u := by
    rw [eM, eS]
    exact ⟨_, (sy_k6 M (by omega) S (by omega)).1, (sy_k6 M (by omega) S (by omega)).2⟩
  rw [eI, eJ]
  refine sy_style1 hIJ hJ w3 w4 w5 t6 hP hx (fun z bg' a2' a3' hP' hx' => ?_) (fun z c b r bg' a2' a3' hP' hc hr h1 h2 hx' => ?_)
  · exact H 0 1 sy_b1 0 13 bg' a2' a3' (sy_R1 hP' hx') (sy_F1 hd (Or.inr (by rw [hsl, z])))
  · refine H (nI (J - I)) c b r (sy_mx 13 m s) bg' a2' a3' ⟨hP', ?_, ?_, ?_, hx'⟩ (Or.inr ⟨I, J, eI, eJ, hIJ, hJ, hd, hsl, z, hu, hc, hr, h1, h2, rfl⟩)
    · rw [hc, hr]
      split <;> split <;> omega
    · rw [hr]
      split <;> omega
    · rw [hc, hr]
      split <;> split <;> omega
theorem sy_place {i j m s r52 y : Int32} {c r : Nat} {b : Nat → Nat} (h : sy_F i j m s r52 c b r y) : ∀ q, q < 8 → i = nI q → b r ≤ q ∧ q < b (r + 1) := by
  intro q hq e
  rcases h with ⟨_, _, _, rfl, rfl, rfl, _⟩ | ⟨I, J, eI, eJ, hIJ, hJ, _, _, _, _, _, _, h1, h2, _⟩
  · exact ⟨Nat.zero_le q, hq⟩
  · rw [eI, nI_eq (by omega) (by omega)] at e
    omega
theorem sy_place2 {c r c' r' : Nat} {b b' : Nat → Nat} {x y i : Int32} (h : sy_same c b r c' b' r' x y) (hp : ∀ q, q < 8 → i = nI q → b r ≤ q ∧ q < b (r + 1)) : ∀ q, q < 8 → i = nI q → b' r' ≤ q ∧ q < b' (r' + 1) := by
  rcases h with ⟨rfl, rfl, rfl⟩ | ⟨rfl, rfl, rfl, _⟩
  · exact hp
  · exact fun q hq _ => ⟨Nat.zero_le q, hq⟩
theorem sy_wsame {c r c' r' : Nat} {b b' : Nat → Nat} {x y x' y' : Int32} {a2 a3 : Nat → Int32} (hR : sy_R c b r x y a2 a3) (h : sy_same c b r c' b' r' x' y') : sy_w x' y' (b' (r' + 1) - b' r') = sy_w x' y' (b (r + 1) - b r) := by
  obtain ⟨hP, hrc, _, _, _⟩ := hR
  have h8 := sy_b8 hP (show r + 1 ≤ c by omega)
  rcases h with ⟨rfl, rfl, rfl⟩ | ⟨rfl, rfl, rfl, h⟩
  · rfl
  · show sy_w x' y' (8 - 0) = _
    rcases h with rfl | rfl
    · have e : r = 0 := by omega
      subst e
      have b0 := hP.2.1
      have b1 : b (0 + 1) = 8 := hP.2.2.1
      rw [b0, b1]
    · unfold sy_w
      split <;> omega
theorem sy_wp {x p : Int32} {w : Nat} (hx : x &&& 1 = 1) (hp : p &&& 1 = 0 ∨ p &&& 1 = 1) (hw : w ≤ 8) : nI (sy_w x p w) = if p &&& 1 = 0 then nI (8 - w) else 8 := by
  unfold sy_w
  rw [if_pos hx]
  rcases hp with h | h
  · rw [if_neg (by rw [h]; decide), if_pos h, Nat.zero_add]
  · rw [if_pos h, if_neg (by rw [h]; decide), show w + (8 - w) = 8 by omega]
    rfl
theorem sy_tog {c w : Nat} {y t v x' y' bs fa : Int32} (hy : ∃ u, u < 64 ∧ y = nI u) (hw : w ≤ 8) (e5 : bs = sy_bs t) (hfa : bs = 1 → (sy_A c 13 y t → fa = 1) ∧ (¬ sy_A c 13 y t → fa = 0))
    (hT : ((t = 1 ∨ t = 2 ∨ t = 4) ∧ sy_A c 13 y t ∧ v = 0 ∧ x' = sy_mx 13 t 0 ∧ y' = sy_mx y t 0) ∨
     ((t = 1 ∨ t = 2 ∨ t = 4) ∧ ¬ sy_A c 13 y t ∧ v = 1 ∧ x' = sy_mx 13 t t ∧ y' = sy_mx y t t) ∨
     (¬ t = 1 ∧ ¬ t = 2 ∧ ¬ t = 4 ∧ v = -1 ∧ x' = 13 ∧ y' = y)) :
    v = (if bs = 0 then -1 else sy_mn bs fa) ∧ y' = sy_sh bs fa y t ∧ nI (sy_w x' y' w) = if t = 1 then (if fa = 0 then 8 else 0) else if y &&& 1 = 0 then nI (8 - w) else 8 := by
  obtain ⟨u, hu, rfl⟩ := hy
  have k4 := sy_k4 u hu
  have k5 := sy_k5 u hu
  rcases hT with ⟨hb, hA, rfl, rfl, rfl⟩ | ⟨hb, hA, rfl, rfl, rfl⟩ | ⟨n1, n2, n4, rfl, rfl, rfl⟩
  · have b1 : bs = 1 := by
      rw [e5]
      rcases hb with rfl | rfl | rfl <;> decide
    have f1 : fa = 1 := (hfa b1).1 hA
    clear hfa
    subst b1 f1
    rcases hb with rfl | rfl | rfl
    · refine ⟨by decide, (sy_k1 u hu).1, ?_⟩
      rw [if_pos rfl, if_neg (by decide), sy_w, if_neg (sy_k3 u hu).1, if_neg (by decide)]
      rfl
    · refine ⟨by decide, (sy_k1 u hu).2.1, ?_⟩
      rw [if_neg (by decide), sy_wp (by decide) (by rw [k4.1.1]; exact k5) hw, k4.1.1]
    · refine ⟨by decide, (sy_k1 u hu).2.2, ?_⟩
      rw [if_neg (by decide), sy_wp (by decide) (by rw [k4.2.1]; exact k5) hw, k4.2.1]
  · have b1 : bs = 1 := by
      rw [e5]
      rcases hb with rfl | rfl | rfl <;> decide
    have f1 : fa = 0 := (hfa b1).2 hA
    clear hfa
    subst b1 f1
    rcases hb with rfl | rfl | rfl
    · refine ⟨by decide, (sy_k2 u hu).1, ?_⟩
      rw [if_pos rfl, if_pos rfl, sy_w, if_pos (sy_k3 u hu).2, if_pos (by decide), show w + (8 - w) = 8 by omega]
      rfl
    · refine ⟨by decide, (sy_k2 u hu).2.1, ?_⟩
      rw [if_neg (by decide), sy_wp (by decide) (by rw [k4.1.2]; exact k5) hw, k4.1.2]
    · refine ⟨by decide, (sy_k2 u hu).2.2, ?_⟩
      rw [if_neg (by decide), sy_wp (by decide) (by rw [k4.2.2]; exact k5) hw, k4.2.2]
  · have b0 : bs = 0 := by rw [e5, sy_bs, if_neg n1, if_neg n2, if_neg n4]
    subst b0
    refine ⟨by rw [if_pos rfl], by rw [sy_sh, if_pos rfl], ?_⟩
    rw [if_neg n1, sy_wp (by decide) k5 hw]
/-- all the answers are as the law's formulas say -/
theorem sy_fin {i j m s t r52 y v x' y' : Int32} {c r c' r' : Nat} {b b' : Nat → Nat} {a2 a3 : Nat → Int32} (hR : sy_R c b r 13 y a2 a3) (hF : sy_F i j m s r52 c b r y) (hT : sy_T c b r 13 y t v c' b' r' x' y') :
    ∃ dn sl df hr bs fa pn : Int32, dn = sy_dn i j m s ∧ sl = sy_sl dn m s ∧ df = sy_df dn sl i j ∧ hr = sy_hr i j sl ∧ bs = sy_bs t ∧ fa = sy_fa bs df sl t (sy_wh i j) ∧ pn = sy_pn df i j ∧
      r52 = (if dn = 0 then -1 else if df = 0 then 0 else j - i) ∧ (if sy_pc i = 0 then -4 else y) = (if sy_pc i = 0 then -4 else hr) ∧ nI c = pn ∧
      (if sy_pc i = 0 then -4 else nI r) = (if sy_pc i = 0 then -4 else if df = 0 then 0 else if i ≤ 0 then 0 else 1) ∧
      (if c < 2 then -4 else nI (b 1)) = (if 2 ≤ pn then (if i ≤ 0 then j else i) else -4) ∧ v = (if bs = 0 then -1 else sy_mn bs fa) ∧
      (if sy_pc i = 0 then -4 else y') = (if sy_pc i = 0 then -4 else sy_sh bs fa hr t) ∧ nI (sy_w x' y' (b' (r' + 1) - b' r')) = sy_on t fa df sl i j := by
  rw [sy_wsame hR hT.1]
  have hT2 := hT.2
  rcases hF with ⟨f1, f2, f3, rfl, rfl, rfl, rfl⟩ | ⟨I, J, rfl, rfl, hIJ, hJ, hd, hs, hy, hu, hc, hr, h1, h2, rfl⟩
  · obtain ⟨fa, ef⟩ : ∃ fa, fa = sy_fa (sy_bs t) 0 (sy_sl (sy_dn i j m s) m s) t (sy_wh i j) := ⟨_, rfl⟩
    have hfa : sy_bs t = 1 → (sy_A 1 13 13 t → fa = 1) ∧ (¬ sy_A 1 13 13 t → fa = 0) := by
      intro hb
      rw [ef, hb, sy_fa, if_neg (by decide), if_pos rfl]
      constructor
      · intro hA
        rw [if_neg hA.1]
      · intro hA
        by_cases e : (13 : Int32) &&& t = 0
        · rw [if_pos e]
        · exact absurd ⟨e, fun z => absurd z (by omega)⟩ hA
    obtain ⟨g1, g2, g3⟩ := sy_tog (w := 8 - 0) ⟨13, by omega, rfl⟩ (by omega) rfl hfa hT2
    refine ⟨sy_dn i j m s, sy_sl (sy_dn i j m s) m s, 0, 13, sy_bs t, fa, 1, rfl, rfl, f1.symm, f2.symm, rfl, ef, rfl, ?_, rfl, rfl, ?_, rfl, g1, ?_, ?_⟩
    · rw [f3, if_pos rfl]
    · rw [if_pos rfl]
      rfl
    · rw [g2]
      rfl
    · refine g3.trans ?_
      rw [sy_on, if_pos rfl]
      by_cases e : t = 1
      · rw [if_pos e, if_pos e]
      · rw [if_neg e, if_neg e, if_neg (by decide)]
  · have hdf : sy_df 1 y (nI I) (nI J) = 1 := by rw [sy_df, if_neg (by decide), if_neg hy, if_neg (nI_ge hIJ (by omega))]
    have hhr : sy_hr (nI I) (nI J) y = y := by rw [sy_hr, if_neg (nI_ge hIJ (by omega))]
    obtain ⟨fa, ef⟩ : ∃ fa, fa = sy_fa (sy_bs t) 1 y t (sy_wh (nI I) (nI J)) := ⟨_, rfl⟩
    have hwh : sy_wh (nI I) (nI J) = 0 ↔ 1 < c := by
      rw [hc]
      exact sy_k10 J (by omega) I hIJ
    have hfa : sy_bs t = 1 → (sy_A c 13 y t → fa = 1) ∧ (¬ sy_A c 13 y t → fa = 0) := by
      intro hb
      rw [ef, hb, sy_fa, if_neg (show ¬ (1 : Int32) = 0 by decide), if_neg (show ¬ (1 : Int32) = 0 by decide)]
      constructor
      · intro hA
        rw [if_neg hA.1]
        by_cases e : sy_wh (nI I) (nI J) = 0
        · rw [if_pos e, if_neg (hA.2 (hwh.mp e))]
        · rw [if_neg e]
      · intro hA
        by_cases e1 : y &&& t = 0
        · rw [if_pos e1]
        · rw [if_neg e1]
          by_cases e : sy_wh (nI I) (nI J) = 0
          · rw [if_pos e]
            by_cases e2 : (13 : Int32) &&& t = 0
            · rw [if_pos e2]
            · exact absurd ⟨e1, fun _ => e2⟩ hA
          · exact absurd ⟨e1, fun z => absurd (hwh.mpr z) e⟩ hA
    obtain ⟨g1, g2, g3⟩ := sy_tog (w := J - I) hu (by omega) rfl hfa hT2
    rw [h1, h2]
    refine ⟨1, y, 1, y, sy_bs t, fa, sy_pn 1 (nI I) (nI J), hd.symm, hs.symm, hdf.symm, hhr.symm, rfl, ef, rfl, ?_, rfl, by rw [hc]; exact sy_k7 J (by omega) I hIJ, ?_, ?_, g1, ?_, ?_⟩
    · rw [if_neg (show ¬ (1 : Int32) = 0 by decide), if_neg (show ¬ (1 : Int32) = 0 by decide), pk_sub (by omega)]
    · rw [if_neg (show ¬ (1 : Int32) = 0 by decide), hr, sy_k8 I (by omega)]
    · rw [← sy_k9 J (by omega) I hIJ, ← hc]
      have e : b 1 = if I = 0 then J else I := by
        by_cases e : I = 0
        · rw [hr, if_pos e] at h2
          rw [if_pos e]
          exact h2
        · rw [hr, if_neg e] at h1
          rw [if_neg e]
          exact h1
      rw [e]
    · rw [g2]
    · refine g3.trans ?_
      rw [sy_on, if_neg (show ¬ (1 : Int32) = 0 by decide), pk_sub (by omega)]
      have e8 : (8 : Int32) - nI (J - I) = nI (8 - (J - I)) := pk_sub (a := 8) (by omega)
      rw [e8]
end
section
theorem sy_runs {post : Int32 → Prop} {n g c fl he bg : Int32} {a1 a2 a3 a4 a5 : Nat → Int32} (H : post c) : wpX_runs post (n, g, c, fl, he, bg, a1, a2, a3, a4, a5) := H
theorem sy_lawOf (i j m s t : Int32) : wpL_lawOf (fun r _ => r = 1) 182 2896 () i j m s t := by
  refine ⟨by omega, by omega, 5, 328, by omega, by omega, ?_⟩
  refine ⟨by omega, by omega, by omega, by omega, by omega, by omega, by omega, by omega, by omega, by omega, ?_⟩
  refine sy_put (fun r30 a1 a2 a3 h2 h3 => ?_)
  refine sy_styleC (sy_P1 h2) h3 (fun r52 c b r y bg a2' a3' hR hF => ?_)
  have hpl := sy_place hF
  refine sy_styleAt hR hpl (fun bg1 => ?_)
  refine sy_runs ?_
  refine sy_runOf hR hpl (fun bg2 => ?_)
  refine sy_begin hR.1 (by have := hR.2.1; omega) ?_
  refine sy_toggle hR (fun v c' b' r' x' y' bg3 a2'' a3'' hR' hT => ?_)
  refine sy_styleAt hR' (sy_place2 hT.1 hpl) (fun bg4 => ?_)
  refine sy_having hR'.1 ?_
  rw [sy_hvR hR']
  obtain ⟨dn, sl, df, hr, bs, fa, pn, e1, e2, e3, e4, e5, e6, e7, h6, h7, h8, h9, h10, h11, h12, h13⟩ := sy_fin hR hF hT
  exact sy_tree e1 e2 e3 e4 e5 e6 e7 h6 h7 h8 h9 h10 h11 h12 h13 rfl
theorem sy_cell {post : Int32 → Prop} {L : Nat} {xs : Nat → Int32} {u : St0} (k : Nat) (hL : L ≤ 5) (hk : k < 5) (H : ∀ v, post v) : wpL_cellAt post L xs u (nI k) :=
  pk_le L k (fun _ => H _) (fun z => ⟨pk_in k L z, H _⟩)
theorem i_vc (xs : Nat → Int32) (L : Nat) (hL : L ≤ 5) : wpL_law (fun r => r = 1) L xs := by
  refine sy_cell 0 hL (by omega) (fun v1 => ?_)
  refine sy_cell 1 hL (by omega) (fun v2 => ?_)
  refine sy_cell 2 hL (by omega) (fun v3 => ?_)
  refine sy_cell 3 hL (by omega) (fun v4 => ?_)
  refine sy_cell 4 hL (by omega) (fun v5 => ?_)
  exact ⟨182, 2896, by omega, by omega, sy_lawOf v1 v2 v3 v4 v5⟩
end
