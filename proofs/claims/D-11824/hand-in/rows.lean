section
/-! ===== WordLattice: the small methods ===== -/
section
variable {pen sp le fr pc pk : Int32} {a1 a2 a3 a4 a5 a6 a7 a8 a9 a10 a11 : Nat → Int32}
theorem wl_spell {post : Int32 → St2 → Prop} {l : Int32} (n : Nat) (hn : n < 5) (h : post (nI (n + 1)) (pen, nI (n + 1), le, fr, pc, pk, a1, a2, a3, a4, a5, upd a6 n (l &&& 3), a7, a8, a9, a10, a11)) : wpX_spell post (pen, nI n, le, fr, pc, pk, a1, a2, a3, a4, a5, a6, a7, a8, a9, a10, a11) l :=
  pk_lt n 5 (fun _ => ⟨pk_in n 5 hn, nm_r (by rw [nI_clamp (by omega)]) (nm_r (nI_1 n) h)⟩) (fun z => absurd z (by omega))
theorem wl_type {post : Int32 → St2 → Prop} {l : Int32} (n : Nat) (hn : n < 12) (h : post (nI (n + 1)) (pen, sp, nI (n + 1), 0, pc, pk, a1, a2, a3, a4, a5, a6, upd a7 n (l &&& 3), a8, a9, a10, a11)) : wpX_type post (pen, sp, nI n, fr, pc, pk, a1, a2, a3, a4, a5, a6, a7, a8, a9, a10, a11) l :=
  pk_lt n 12 (fun _ => ⟨pk_in n 12 hn, nm_r (by rw [nI_clamp (by omega)]) (nm_r (nI_1 n) h)⟩) (fun z => absurd z (by omega))
theorem wl_link {post : Int32 → St2 → Prop} {x y z : Int32} (k l c : Nat) (hk : k < 4) (hl : l < 4) (hc : c ≤ 99) (h : post (a8 (4 * k + l)) (pen, sp, le, 0, pc, pk, a1, a2, a3, a4, a5, a6, a7, upd a8 (4 * k + l) (nI c), a9, a10, a11)) (hx : x = nI k := by rfl) (hy : y = nI l := by rfl) (hz : z = nI c := by rfl) : wpX_link post (pen, sp, le, fr, pc, pk, a1, a2, a3, a4, a5, a6, a7, a8, a9, a10, a11) x y z := by
  subst hx hy hz
  have e : (4 : Int32) * nI k + nI l = nI (4 * k + l) := by
    rw [show (4 : Int32) = nI 4 from rfl, pk_mul, nI_add]
  have hi : vp_in ((4 : Int32) * nI k + nI l) 16 := pk_in (4 * k + l) 16 (by omega) e
  have he : ((4 : Int32) * nI k + nI l).toNatClampNeg = 4 * k + l := pk_cl (4 * k + l) e
  exact pk_lt k 0 (fun z => absurd z (by omega)) (fun _ => pk_lt 3 k (fun z => absurd z (by omega)) (fun _ => pk_lt l 0 (fun z => absurd z (by omega)) (fun _ => pk_lt 3 l (fun z => absurd z (by omega)) (fun _ => pk_lt c 0 (fun z => absurd z (by omega)) (fun _ => pk_le c 99 (fun _ => ⟨hi, nm_r (by rw [he]) ⟨hi, nm_r (by rw [he]) h⟩⟩) (fun z => absurd z (by omega)))))))
end
/-- childOf at these arrays answers r -/
def wl_C (a1 a2 : Nat → Int32) (s c r : Int32) : Prop := ∀ (post : Int32 → Prop) (pen sp le fr pc pk : Int32) (a3 a4 a5 a6 a7 a8 a9 a10 a11 : Nat → Int32), post r → wpX_childOf post (pen, sp, le, fr, pc, pk, a1, a2, a3, a4, a5, a6, a7, a8, a9, a10, a11) s c
theorem wl_C_y {a1 a2 : Nat → Int32} {x y : Int32} (s c b : Nat) (hx : x = nI s) (hy : y = nI c) (hs : s < 512) (hb : a1 s = nI b) (hc : b + c + 1 < 512) (h2 : a2 (b + c + 1) = nI s) : wl_C a1 a2 x y (nI (b + c + 1)) := by
  intro post pen sp le fr pc pk a3 a4 a5 a6 a7 a8 a9 a10 a11 h
  subst hx hy
  exact ⟨pk_in s 512 hs, nm_r (e' := nI (b + c + 1)) (by rw [nI_clamp (by omega), hb, nI_add, nI_1]) (pk_le (b + c + 1) 0 (fun z => absurd z (by omega)) (fun _ => ⟨pk_in _ 512 hc, br_t (by rw [nI_clamp (by omega)]; exact h2) h⟩))⟩
theorem wl_C_n {a1 a2 : Nat → Int32} {x y : Int32} (s c b : Nat) (hx : x = nI s) (hy : y = nI c) (hs : s < 512) (hb : a1 s = nI b) (hc : b + c + 1 < 512) (h2 : ¬ a2 (b + c + 1) = nI s) : wl_C a1 a2 x y (-1) := by
  intro post pen sp le fr pc pk a3 a4 a5 a6 a7 a8 a9 a10 a11 h
  subst hx hy
  exact ⟨pk_in s 512 hs, nm_r (e' := nI (b + c + 1)) (by rw [nI_clamp (by omega), hb, nI_add, nI_1]) (pk_le (b + c + 1) 0 (fun z => absurd z (by omega)) (fun _ => ⟨pk_in _ 512 hc, br_f (by rw [nI_clamp (by omega)]; exact h2) h⟩))⟩
section
variable {pen sp le fr pc pk : Int32} {a1 a2 a3 a4 a5 a6 a7 a8 a9 a10 a11 : Nat → Int32}
theorem wl_find_e {post : Int32 → Prop} {x : Int32} {n i k : Nat} (hi : k ≤ i) (hk : i ≤ 5) (h : post x) : wX_find_4 post pen (nI k) le fr pc pk a1 a2 a3 a4 a5 a6 a7 a8 a9 a10 a11 (n + 1) x (nI i) :=
  pk_le k i (fun _ => h) (fun z => absurd z (by omega))
theorem wl_find_s {post : Int32 → Prop} {x r : Int32} {n i k : Nat} (hi : i < k) (hk : k ≤ 5) (hx : ¬ x < 0) (hC : wl_C a1 a2 x (a6 i) r) (h : wX_find_4 post pen (nI k) le fr pc pk a1 a2 a3 a4 a5 a6 a7 a8 a9 a10 a11 n r (nI (i + 1))) : wX_find_4 post pen (nI k) le fr pc pk a1 a2 a3 a4 a5 a6 a7 a8 a9 a10 a11 (n + 1) x (nI i) := by
  refine pk_le k i (fun z => absurd z (by omega)) (fun _ => br_f hx ⟨pk_in i 5 (by omega), ?_⟩)
  rw [nI_clamp (by omega)]
  exact hC _ _ _ _ _ _ _ _ _ _ _ _ _ _ _ _ (nm_r (nI_1 i) h)
theorem wl_find1 {post : Int32 → Prop} {r : Int32} (hC : wl_C a1 a2 0 (a6 0) r) (h : post r) : wpX_find post (pen, nI 1, le, fr, pc, pk, a1, a2, a3, a4, a5, a6, a7, a8, a9, a10, a11) :=
  ⟨2, wl_find_s (i := 0) (k := 1) (by omega) (by omega) (by decide) hC (wl_find_e (by omega) (by omega) h)⟩
theorem wl_find2 {post : Int32 → Prop} {s r : Int32} (hC : wl_C a1 a2 0 (a6 0) s) (hs : ¬ s < 0) (hD : wl_C a1 a2 s (a6 1) r) (h : post r) : wpX_find post (pen, nI 2, le, fr, pc, pk, a1, a2, a3, a4, a5, a6, a7, a8, a9, a10, a11) :=
  ⟨3, wl_find_s (i := 0) (k := 2) (by omega) (by omega) (by decide) hC (wl_find_s (i := 1) (k := 2) (by omega) (by omega) hs hD (wl_find_e (by omega) (by omega) h))⟩
end
/-! ===== the constructor ===== -/
theorem wl_fill {s : Nat → Int32} {i k : Nat} {x : Int32} (hk : k = i) (h : ∀ j, j < i → s j = x) : ∀ j, j < i + 1 → upd s k x j = x := by
  intro j hj
  rw [hk]
  by_cases e : j = i
  · rw [e, pk_us]
  · rw [pk_un e]
    exact h j (by omega)
theorem wl_init123 {post : St2 → Prop} {mc ms kc ks : Nat} {pen sp le fr pc pk : Int32} (H : ∀ a2 a3 : Nat → Int32, a2 0 = 0 → (∀ j, 0 < j → j < 512 → a2 j = -1) → (∀ j, j < 512 → a3 j = -1) → post (pen, sp, le, fr, pc, pk, (fun _ => 0), a2, a3, (fun _ => 0), (fun _ => 0), (fun _ => 0), (fun _ => 0), (fun _ => 0), (fun _ => 0), (fun _ => 0), (fun _ => 0))) :
    ∃ n, wX_init_123 post mc ms kc ks pen sp le fr pc pk n 0 (fun _ => 0) (fun _ => 0) (fun _ => 0) (fun _ => 0) (fun _ => 0) (fun _ => 0) (fun _ => 0) (fun _ => 0) (fun _ => 0) (fun _ => 0) (fun _ => 0) :=
  pk_loop (σ := (Nat → Int32) × (Nat → Int32)) (fun n i s => wX_init_123 post mc ms kc ks pen sp le fr pc pk n (nI i) (fun _ => 0) s.1 s.2 (fun _ => 0) (fun _ => 0) (fun _ => 0) (fun _ => 0) (fun _ => 0) (fun _ => 0) (fun _ => 0) (fun _ => 0))
    (fun i s => (∀ j, j < i → s.1 j = -1) ∧ (∀ j, j < i → s.2 j = -1)) 512 0 (fun _ => 0, fun _ => 0) (by omega) ⟨fun j hj => absurd hj (by omega), fun j hj => absurd hj (by omega)⟩
    (fun n s h => pk_le 512 512 (fun _ => nm_e (H _ _ pk_us (fun j h0 hj => by rw [pk_un (by omega)]; exact h.1 j hj) h.2)) (fun z => absurd z (by omega)))
    (fun n i s hi h hw => pk_le 512 i (fun z => absurd z (by omega)) (fun _ => ⟨pk_in i 512 hi, nm_e ⟨pk_in i 512 hi, nm_e (nm_r (nI_1 i) (hw (_, _) ⟨wl_fill (nI_clamp (by omega)) h.1, wl_fill (nI_clamp (by omega)) h.2⟩))⟩⟩))
theorem wl_init26 {post : St2 → Prop} {mc ms : Nat} {pen f0 sp le fr pc pk : Int32} (hm : 11 ≤ mc) (hs : 2788 ≤ ms) (H : ∀ a2 a3 : Nat → Int32, a2 0 = 0 → (∀ j, 0 < j → j < 512 → a2 j = -1) → (∀ j, j < 512 → a3 j = -1) → post (pen, sp, le, fr, pc, pk, (fun _ => 0), a2, a3, (fun _ => 0), (fun _ => 0), (fun _ => 0), (fun _ => 0), (fun _ => 0), (fun _ => 0), (fun _ => 0), (fun _ => 0))) :
    wX_init_26 post mc ms pen 0 0 f0 sp le fr pc pk :=
  ⟨by omega, by omega, by omega, by omega, by omega, by omega, by omega, by omega, by omega, by omega, by omega, by omega, by omega, by omega, by omega, by omega, by omega, by omega, by omega, by omega, by omega, by omega, wl_init123 H⟩
/-- the penalty as the class and the law hold it -/
def wl_P (x : Int32) (p : Nat) : Prop := 1 ≤ p ∧ p ≤ 99 ∧ ((1 ≤ x ∧ x ≤ 99 ∧ x = nI p) ∨ (1 ≤ x ∧ ¬ x ≤ 99 ∧ p = 99) ∨ (¬ 1 ≤ x ∧ p = 1))
theorem wl_init {post : St2 → Prop} {mc ms : Nat} {x : Int32} {p : Nat} (hp : wl_P x p) (hm : 11 ≤ mc) (hs : 2788 ≤ ms) (H : ∀ a2 a3 : Nat → Int32, a2 0 = 0 → (∀ j, 0 < j → j < 512 → a2 j = -1) → (∀ j, j < 512 → a3 j = -1) → post (nI p, 0, 0, 0, 0, 0, (fun _ => 0), a2, a3, (fun _ => 0), (fun _ => 0), (fun _ => 0), (fun _ => 0), (fun _ => 0), (fun _ => 0), (fun _ => 0), (fun _ => 0))) :
    wpX_init post mc ms (0, 0, 0, 0, 0, 0) x := by
  obtain ⟨_, _, h | h | h⟩ := hp
  · obtain ⟨h1, h2, e⟩ := h
    subst e
    exact br_t h1 (br_t h2 (wl_init26 hm hs H))
  · obtain ⟨h1, h2, e⟩ := h
    subst e
    exact br_t h1 (br_f h2 (wl_init26 hm hs H))
  · obtain ⟨h1, e⟩ := h
    subst e
    exact br_f h1 (wl_init26 hm hs H)
end
section
/-! ===== the dictionary: addChild, grow, learn ===== -/
section
variable {pen sp le fr pc pk : Int32} {a1 a2 a3 a4 a5 a6 a7 a8 a9 a10 a11 : Nat → Int32}
theorem wl_ac41 {post : Int32 → St2 → Prop} {x : Int32} {W : Nat} (hW : W < 512) (h : post (nI W) (pen, sp, le, fr, pc, pk, upd a1 W 0, upd a2 W x, upd a3 W (-1), a4, upd a5 W 0, a6, a7, a8, a9, a10, a11)) : wX_addChild_41 post x (nI W) pen sp le fr pc pk a1 a2 a3 a4 a5 a6 a7 a8 a9 a10 a11 := by
  have hi : vp_in (nI W) 512 := pk_in W 512 hW
  have hc : (nI W).toNatClampNeg = W := nI_clamp (by omega)
  exact ⟨hi, nm_r (by rw [hc]) ⟨hi, nm_r (by rw [hc]) ⟨hi, nm_r (by rw [hc]) ⟨hi, nm_r (by rw [hc]) h⟩⟩⟩⟩
theorem wl_add {post : Int32 → St2 → Prop} {x y : Int32} (s c b : Nat) (hx : x = nI s) (hy : y = nI c) (hs : s < 512) (hb : a1 s = nI b) (hc : b + c + 1 < 512) (h2 : a2 (b + c + 1) = -1) (h : post (nI (b + c + 1)) (pen, sp, le, fr, pc, pk, upd a1 (b + c + 1) 0, upd a2 (b + c + 1) (nI s), upd a3 (b + c + 1) (-1), a4, upd a5 (b + c + 1) 0, a6, a7, a8, a9, a10, a11)) : wpX_addChild post (pen, sp, le, fr, pc, pk, a1, a2, a3, a4, a5, a6, a7, a8, a9, a10, a11) x y := by
  subst hx hy
  exact ⟨pk_in s 512 hs, nm_r (e' := nI (b + c + 1)) (by rw [nI_clamp (by omega), hb, nI_add, nI_1]) ⟨pk_in _ 512 hc, br_f (by rw [nI_clamp (by omega), h2]; decide) (pk_eq (b + c + 1) 0 (fun z => absurd z (by omega)) (fun _ => wl_ac41 hc h))⟩⟩
theorem wl_bit1 : ∀ u, u < 4 → ∀ c, c < 4 → (((((0 : Int32) ||| ((1 : Int32) <<< (nI u &&& 31))).toUInt32 >>> ((nI c).toUInt32 &&& Int32.toUInt32 31)).toInt32 &&& 1) = 0 ↔ c ≠ u) := by decide +kernel
theorem wl_bit0 : ∀ c, c < 4 → (((0 : Int32).toUInt32 >>> ((nI c).toUInt32 &&& Int32.toUInt32 31)).toInt32 &&& 1) = 0 := by decide +kernel
theorem wl_fb_free {post : Int32 → Prop} {J : Int32 → Prop} {u b : Nat} (hu : u < 4) (hb : b < 500) (h2 : a2 (b + u + 1) = -1) (h : post (nI b)) : ∃ n, wX_freeBase_14 post J ((0 : Int32) ||| ((1 : Int32) <<< (nI u &&& 31))) (nI b) pen sp le fr pc pk a1 a2 a3 a4 a5 a6 a7 a8 a9 a10 a11 n 1 0 :=
  pk_loop (σ := Unit) (fun n i _ => wX_freeBase_14 post J ((0 : Int32) ||| ((1 : Int32) <<< (nI u &&& 31))) (nI b) pen sp le fr pc pk a1 a2 a3 a4 a5 a6 a7 a8 a9 a10 a11 n 1 (nI i)) (fun _ _ => True) 4 0 () (by omega) trivial
    (fun n _ _ => pk_le 4 4 (fun _ => br_f (by decide) h) (fun z => absurd z (by omega)))
    (fun n i _ hi _ hw => pk_le 4 i (fun z => absurd z (by omega)) (fun _ => ek_if (wl_bit1 u hu i hi) (fun _ => nm_r (nI_1 i) (hw () trivial)) (fun z => by
      have e : i = u := Decidable.not_not.mp z
      subst e
      have e2 : nI b + nI i + 1 = nI (b + i + 1) := by rw [nI_add, nI_1]
      refine ⟨pk_in (b + i + 1) 512 (by omega) e2, br_t ?_ (nm_r (nI_1 i) (hw () trivial))⟩
      rw [e2, nI_clamp (by omega), h2]
      decide)))
theorem wl_fb_busy {post : Int32 → Prop} {J : Int32 → Prop} {u b : Nat} (hu : u < 4) (hb : b < 500) (h2 : a2 (b + u + 1) = 0) (h : J (nI (b + 1))) : ∃ n, wX_freeBase_14 post J ((0 : Int32) ||| ((1 : Int32) <<< (nI u &&& 31))) (nI b) pen sp le fr pc pk a1 a2 a3 a4 a5 a6 a7 a8 a9 a10 a11 n 1 0 :=
  pk_loop (σ := Int32) (fun n i x => wX_freeBase_14 post J ((0 : Int32) ||| ((1 : Int32) <<< (nI u &&& 31))) (nI b) pen sp le fr pc pk a1 a2 a3 a4 a5 a6 a7 a8 a9 a10 a11 n x (nI i)) (fun i x => u < i → x = 0) 4 0 1 (by omega) (fun z => absurd z (by omega))
    (fun n x hI => pk_le 4 4 (fun _ => br_t (hI hu) (nm_r (nI_1 b) h)) (fun z => absurd z (by omega)))
    (fun n i x hi hI hw => pk_le 4 i (fun z => absurd z (by omega)) (fun _ => ek_if (wl_bit1 u hu i hi) (fun z => nm_r (nI_1 i) (hw x (fun g => hI (by omega)))) (fun z => by
      have e : i = u := Decidable.not_not.mp z
      subst e
      have e2 : nI b + nI i + 1 = nI (b + i + 1) := by rw [nI_add, nI_1]
      refine ⟨pk_in (b + i + 1) 512 (by omega) e2, br_f ?_ (nm_r (nI_1 i) (hw 0 (fun _ => rfl)))⟩
      rw [e2, nI_clamp (by omega), h2]
      decide)))
theorem wl_fb {post : Int32 → Prop} {u : Nat} (hu : u < 4) (h2 : a2 (0 + u + 1) = 0) (h3 : a2 (1 + u + 1) = -1) (h : post (nI 1)) : wpX_freeBase post (pen, sp, le, fr, pc, pk, a1, a2, a3, a4, a5, a6, a7, a8, a9, a10, a11) ((0 : Int32) ||| ((1 : Int32) <<< (nI u &&& 31))) :=
  ⟨2, pk_le 500 0 (fun z => absurd z (by omega)) (fun _ => wl_fb_busy (b := 0) hu (by omega) h2 (pk_le 500 (0 + 1) (fun z => absurd z (by omega)) (fun _ => wl_fb_free (b := 1) hu (by omega) h3 h)))⟩
theorem wl_mc60 {post : St2 → Prop} {y x5 : Int32} {s : Nat} (hs : s < 512) (h : post (pen, sp, le, fr, pc, pk, upd a1 s y, a2, a3, a4, a5, a6, a7, a8, a9, a10, a11)) : ∃ n, wX_moveChildren_60 post (nI s) 0 y x5 n 0 pen sp le fr pc pk a1 a2 a3 a4 a5 a6 a7 a8 a9 a10 a11 :=
  pk_loop (σ := Unit) (fun n i _ => wX_moveChildren_60 post (nI s) 0 y x5 n (nI i) pen sp le fr pc pk a1 a2 a3 a4 a5 a6 a7 a8 a9 a10 a11) (fun _ _ => True) 4 0 () (by omega) trivial
    (fun n _ _ => pk_le 4 4 (fun _ => ⟨pk_in s 512 hs, nm_r (by rw [nI_clamp (by omega)]) h⟩) (fun z => absurd z (by omega)))
    (fun n i _ hi _ hw => pk_le 4 i (fun z => absurd z (by omega)) (fun _ => br_t (wl_bit0 i hi) (nm_r (nI_1 i) (hw () trivial))))
theorem wl_mc {post : St2 → Prop} {u : Nat} (hu : u < 4) (h1 : a1 (u + 1) = 0) (h2 : a2 (u + 1) = 0) (h3 : ∀ j, 0 < j → j < 512 → j ≠ u + 1 → a2 j = -1) (h : post (pen, sp, le, fr, pc, pk, upd a1 (u + 1) (nI 1), a2, a3, a4, a5, a6, a7, a8, a9, a10, a11)) : wpX_moveChildren post (pen, sp, le, fr, pc, pk, a1, a2, a3, a4, a5, a6, a7, a8, a9, a10, a11) (nI (u + 1)) (nI u) :=
  pk_loop (σ := Unit) (fun n i _ => wX_moveChildren_5 post (nI (u + 1)) (nI u) pen sp le fr pc pk a1 a2 a3 a4 a5 a6 a7 a8 a9 a10 a11 n 0 (nI i)) (fun _ _ => True) 4 0 () (by omega) trivial
    (fun n _ _ => pk_le 4 4 (fun _ => wl_fb hu (by rw [Nat.zero_add]; exact h2) (h3 _ (by omega) (by omega) (by omega)) ⟨pk_in (u + 1) 512 (by omega), nm_e (wl_mc60 (by omega) h)⟩) (fun z => absurd z (by omega)))
    (fun n i _ hi _ hw => pk_le 4 i (fun z => absurd z (by omega)) (fun _ => wl_C_n (u + 1) i 0 rfl rfl (by omega) h1 (by omega) (by
      rw [Nat.zero_add]
      by_cases e : i = u
      · rw [e, h2, ← nI_0, nI_eq (by omega) (by omega)]; omega
      · rw [h3 (i + 1) (by omega) (by omega) (by omega)]
        intro z
        have := congrArg (fun x : Int32 => decide (x < 0)) z
        simp only [nI_pos (show u + 1 < 2 ^ 31 by omega), decide_false] at this
        exact absurd this (by decide)) _ _ _ _ _ _ _ _ _ _ _ _ _ _ _ _ (br_t (by decide) (nm_r (nI_1 i) (hw () trivial)))))
theorem wl_addm {post : Int32 → St2 → Prop} {x y : Int32} {u : Nat} (hx : x = nI (u + 1)) (hy : y = nI u) (hu : u < 4) (h1 : a1 (u + 1) = 0) (h2 : a2 (u + 1) = 0) (h3 : ∀ j, 0 < j → j < 512 → j ≠ u + 1 → a2 j = -1) (h : post (nI (1 + u + 1)) (pen, sp, le, fr, pc, pk, upd (upd a1 (u + 1) (nI 1)) (1 + u + 1) 0, upd a2 (1 + u + 1) (nI (u + 1)), upd a3 (1 + u + 1) (-1), a4, upd a5 (1 + u + 1) 0, a6, a7, a8, a9, a10, a11)) : wpX_addChild post (pen, sp, le, fr, pc, pk, a1, a2, a3, a4, a5, a6, a7, a8, a9, a10, a11) x y := by
  subst hx hy
  refine ⟨pk_in (u + 1) 512 (by omega), nm_r (e' := nI (u + 1)) (by rw [nI_clamp (by omega), h1, ← nI_0, nI_add, nI_1, Nat.zero_add]) ⟨pk_in (u + 1) 512 (by omega), br_t (by rw [nI_clamp (by omega), h2]; decide) ?_⟩⟩
  exact wl_mc hu h1 h2 h3 ⟨pk_in (u + 1) 512 (by omega), nm_r (e' := nI (1 + u + 1)) (by rw [nI_clamp (by omega), pk_us, nI_add, nI_1]) (wl_ac41 (by omega) h)⟩
theorem wl_grow_e {post : Int32 → St2 → Prop} {x : Int32} {n i k : Nat} (hi : k ≤ i) (hk : i ≤ 5) (h : post x (pen, nI k, le, fr, pc, pk, a1, a2, a3, a4, a5, a6, a7, a8, a9, a10, a11)) : wX_grow_14 post (n + 1) x (nI i) pen (nI k) le fr pc pk a1 a2 a3 a4 a5 a6 a7 a8 a9 a10 a11 :=
  pk_le k i (fun _ => h) (fun z => absurd z (by omega))
theorem wl_grow50 {post : Int32 → St2 → Prop} {n i s : Nat} (hs : s < 512) (h : wX_grow_14 post n (nI s) (nI (i + 1)) pen sp le fr pc pk a1 a2 a3 a4 (upd a5 s (a5 s + 1)) a6 a7 a8 a9 a10 a11) : wX_grow_50 post (wX_grow_14 post n) (nI i) (nI s) pen sp le fr pc pk a1 a2 a3 a4 a5 a6 a7 a8 a9 a10 a11 :=
  ⟨pk_in s 512 hs, pk_in s 512 hs, nm_r (by rw [nI_clamp (by omega)]) (nm_r (nI_1 i) h)⟩
theorem wl_grow_y {post : Int32 → St2 → Prop} {x : Int32} {n i k s : Nat} (hi : i < k) (hk : k ≤ 5) (hs : s < 512) (hC : wl_C a1 a2 x (a6 i) (nI s)) (h : wX_grow_14 post n (nI s) (nI (i + 1)) pen (nI k) le fr pc pk a1 a2 a3 a4 (upd a5 s (a5 s + 1)) a6 a7 a8 a9 a10 a11) : wX_grow_14 post (n + 1) x (nI i) pen (nI k) le fr pc pk a1 a2 a3 a4 a5 a6 a7 a8 a9 a10 a11 := by
  refine pk_le k i (fun z => absurd z (by omega)) (fun _ => ⟨pk_in i 5 (by omega), ?_⟩)
  rw [nI_clamp (by omega)]
  exact hC _ _ _ _ _ _ _ _ _ _ _ _ _ _ _ _ (br_t (nI_pos' (by omega)) (wl_grow50 hs h))
end
/-- the dictionary that holds the word u alone -/
def wl_D1 (u a : Nat) (a1 a2 a3 a4 a5 : Nat → Int32) : Prop := (∀ j, j < 512 → a1 j = 0) ∧ a2 (u + 1) = 0 ∧ (∀ j, 0 < j → j < 512 → j ≠ u + 1 → a2 j = -1) ∧ a3 (u + 1) = nI a ∧ a4 (u + 1) = nI 1 ∧ a5 0 = nI 1 ∧ a5 (u + 1) = nI 1
/-- the dictionary that holds the word uv, and u with the cost A (-1: not a word) -/
def wl_D (u v : Nat) (A : Int32) (b n : Nat) (a1 a2 a3 a4 a5 : Nat → Int32) : Prop := ∃ bs, bs ≤ 1 ∧ bs + v + 1 ≠ u + 1 ∧ a1 0 = 0 ∧ a1 (u + 1) = nI bs ∧ a2 (u + 1) = 0 ∧ a2 (bs + v + 1) = nI (u + 1) ∧ (v ≠ u → ¬ a2 (v + 1) = 0) ∧ a3 (u + 1) = A ∧ a4 (u + 1) = nI 1 ∧ a3 (bs + v + 1) = nI b ∧ a4 (bs + v + 1) = nI 2 ∧ a5 0 = nI n ∧ a5 (u + 1) = nI n
section
variable {pen sp le fr pc pk : Int32} {a1 a2 a3 a4 a5 a6 a7 a8 a9 a10 a11 : Nat → Int32}
theorem wl_learn76 {post : Int32 → St2 → Prop} {x1 x2 : Int32} {s : Nat} (hs : s < 512) (h : post (a5 0) (pen, 0, le, 0, pc, pk, a1, a2, upd a3 s x1, upd a4 s x2, a5, a6, a7, a8, a9, a10, a11)) : wX_learn_76 post x1 x2 (nI s) pen sp le fr pc pk a1 a2 a3 a4 a5 a6 a7 a8 a9 a10 a11 := by
  have hi : vp_in (nI s) 512 := pk_in s 512 hs
  have hc : (nI s).toNatClampNeg = s := nI_clamp (by omega)
  exact ⟨hi, nm_r (by rw [hc]) ⟨hi, nm_r (by rw [hc]) h⟩⟩
theorem wl_m1 {n : Nat} (h : n < 2 ^ 31) : ¬ (-1 : Int32) = nI n := by
  intro z
  have h1 : (-1 : Int32) < 0 := by decide
  rw [z] at h1
  exact nI_pos h h1
theorem wl_learn1 {post : Int32 → St2 → Prop} {u a : Nat} (hu : u < 4) (ha : a ≤ 99) (h1 : ∀ j, j < 512 → a1 j = 0) (h2 : ∀ j, 0 < j → j < 512 → a2 j = -1) (h5 : ∀ j, j < 512 → a5 j = 0) (h6 : a6 0 = nI u)
    (H : ∀ b1 b2 b3 b4 b5 : Nat → Int32, wl_D1 u a b1 b2 b3 b4 b5 → post (nI 1) (pen, 0, le, 0, pc, pk, b1, b2, b3, b4, b5, a6, a7, a8, a9, a10, a11)) : wpX_learn post (pen, nI 1, le, fr, pc, pk, a1, a2, a3, a4, a5, a6, a7, a8, a9, a10, a11) (nI a) 1 := by
  have hC : ∀ b5 : Nat → Int32, wl_C a1 a2 0 (a6 0) (-1) := fun _ => wl_C_n 0 u 0 rfl h6 (by omega) (h1 0 (by omega)) (by omega) (by rw [h2 _ (by omega) (by omega)]; exact wl_m1 (by omega))
  refine pk_eq 1 0 (fun z => absurd z (by omega)) (fun _ => pk_lt a 0 (fun z => absurd z (by omega)) (fun _ => pk_lt 99 a (fun z => absurd z (by omega)) (fun _ => pk_lt 1 0 (fun z => absurd z (by omega)) (fun _ => pk_le 1 2 (fun _ => ?_) (fun z => absurd z (by omega))))))
  refine wl_find1 (hC a5) (br_t (by decide) (br_t rfl (pk_lt 0 16 (fun _ => ?_) (fun z => absurd z (by omega)) (h5 0 (by omega)))))
  refine nm_r (e' := upd a5 0 (nI 1)) (by rw [h5 0 (by omega)]; rfl) ⟨2, ?_⟩
  refine pk_le 1 0 (fun z => absurd z (by omega)) (fun _ => ⟨pk_in 0 5 (by omega), ?_⟩)
  refine hC a5 _ _ _ _ _ _ _ _ _ _ _ _ _ _ _ _ (br_f (by decide) ⟨pk_in 0 5 (by omega), ?_⟩)
  refine wl_add 0 u 0 rfl h6 (by omega) (h1 0 (by omega)) (by omega) (h2 _ (by omega) (by omega)) ?_
  refine wl_grow50 (i := 0) (by omega) (wl_grow_e (i := 1) (k := 1) (by omega) (by omega) (wl_learn76 (by omega) ?_))
  rw [Nat.zero_add, pk_un (by omega), pk_un (by omega), pk_us]
  refine H _ _ _ _ _ ⟨fun j hj => ?_, pk_us, fun j h0 hj hn => ?_, pk_us, pk_us, ?_, ?_⟩
  · by_cases e : j = u + 1
    · rw [e, pk_us]
    · rw [pk_un e, h1 j hj]
  · rw [pk_un hn, h2 j h0 hj]
  · rw [pk_un (by omega), pk_un (by omega), pk_us]
  · rw [pk_us, pk_us]; rfl
theorem wl_learn2 {post : Int32 → St2 → Prop} {u v a b : Nat} (hu : u < 4) (hv : v < 4) (hb : b ≤ 99) (hD : wl_D1 u a a1 a2 a3 a4 a5) (h6 : a6 0 = nI u) (h7 : a6 1 = nI v)
    (H : ∀ b1 b2 b3 b4 b5 : Nat → Int32, wl_D u v (nI a) b 2 b1 b2 b3 b4 b5 → post (nI 2) (pen, 0, le, 0, pc, pk, b1, b2, b3, b4, b5, a6, a7, a8, a9, a10, a11)) : wpX_learn post (pen, nI 2, le, fr, pc, pk, a1, a2, a3, a4, a5, a6, a7, a8, a9, a10, a11) (nI b) 2 := by
  obtain ⟨h1, h2, h3, h3a, h4, h50, h5u⟩ := hD
  have hC : wl_C a1 a2 0 (a6 0) (nI (0 + u + 1)) := wl_C_y 0 u 0 rfl h6 (by omega) (h1 0 (by omega)) (by omega) (by rw [Nat.zero_add]; exact h2)
  rw [Nat.zero_add] at hC
  have hN : wl_C a1 a2 (nI (u + 1)) (a6 1) (-1) := wl_C_n (u + 1) v 0 rfl h7 (by omega) (h1 _ (by omega)) (by omega) (by
    rw [Nat.zero_add]
    by_cases e : v = u
    · rw [e, h2, ← nI_0, nI_eq (by omega) (by omega)]; omega
    · rw [h3 (v + 1) (by omega) (by omega) (by omega)]; exact wl_m1 (by omega))
  refine pk_eq 2 0 (fun z => absurd z (by omega)) (fun _ => pk_lt b 0 (fun z => absurd z (by omega)) (fun _ => pk_lt 99 b (fun z => absurd z (by omega)) (fun _ => pk_lt 2 0 (fun z => absurd z (by omega)) (fun _ => pk_le 2 2 (fun _ => ?_) (fun z => absurd z (by omega))))))
  refine wl_find2 hC (nI_pos (by omega)) hN (br_t (by decide) (br_t rfl (pk_lt 1 16 (fun _ => ?_) (fun z => absurd z (by omega)) h50)))
  refine nm_r (e' := upd a5 0 (nI 2)) (by rw [h50]; rfl) ⟨3, ?_⟩
  refine wl_grow_y (i := 0) (k := 2) (by omega) (by omega) (by omega) hC ?_
  rw [pk_un (by omega), h5u]
  refine pk_le 2 1 (fun z => absurd z (by omega)) (fun _ => ⟨pk_in 1 5 (by omega), ?_⟩)
  refine hN _ _ _ _ _ _ _ _ _ _ _ _ _ _ _ _ (br_f (by decide) ⟨pk_in 1 5 (by omega), ?_⟩)
  by_cases e : v = u
  · subst e
    refine wl_addm rfl h7 hu (h1 _ (by omega)) h2 h3 ?_
    refine wl_grow50 (i := 1) (by omega) (wl_grow_e (i := 2) (k := 2) (by omega) (by omega) (wl_learn76 (by omega) ?_))
    rw [pk_un (by omega), pk_un (by omega), pk_un (by omega), pk_us]
    refine H _ _ _ _ _ ⟨1, by omega, by omega, ?_, ?_, ?_, pk_us, fun z => absurd rfl z, ?_, ?_, pk_us, pk_us, ?_, ?_⟩
    · rw [pk_un (by omega), pk_un (by omega), h1 0 (by omega)]
    · rw [pk_un (by omega), pk_us]
    · rw [pk_un (by omega), h2]
    · rw [pk_un (by omega), pk_un (by omega), h3a]
    · rw [pk_un (by omega), h4]
    · rw [pk_un (by omega), pk_un (by omega), pk_un (by omega), pk_us]
    · rw [pk_un (by omega), pk_un (by omega), pk_us]; rfl
  · refine wl_add (u + 1) v 0 rfl h7 (by omega) (h1 _ (by omega)) (by omega) (h3 _ (by omega) (by omega) (by omega)) ?_
    refine wl_grow50 (i := 1) (by omega) (wl_grow_e (i := 2) (k := 2) (by omega) (by omega) (wl_learn76 (by omega) ?_))
    rw [pk_un (by omega), pk_un (by omega), pk_un (by omega), pk_us]
    refine H _ _ _ _ _ ⟨0, by omega, by omega, ?_, ?_, ?_, pk_us, fun _ => ?_, ?_, ?_, pk_us, pk_us, ?_, ?_⟩
    · rw [pk_un (by omega), h1 0 (by omega)]
    · rw [pk_un (by omega), h1 _ (by omega)]; rfl
    · rw [pk_un (by omega), h2]
    · rw [Nat.zero_add, pk_us]; exact nI_ne0 (by omega) (by omega)
    · rw [pk_un (by omega), pk_un (by omega), h3a]
    · rw [pk_un (by omega), h4]
    · rw [pk_un (by omega), pk_un (by omega), pk_un (by omega), pk_us]
    · rw [pk_un (by omega), pk_un (by omega), pk_us]; rfl
/-! what the dictionary answers -/
theorem wl_D_0u {u v b n : Nat} {A y : Int32} (hu : u < 4) (hD : wl_D u v A b n a1 a2 a3 a4 a5) (hy : y = nI u) : wl_C a1 a2 0 y (nI (u + 1)) := by
  obtain ⟨bs, hb, hn, h1, h1u, h2, _⟩ := hD
  have h := wl_C_y (a1 := a1) (a2 := a2) (x := 0) 0 u 0 rfl hy (by omega) h1 (by omega) (by rw [Nat.zero_add]; exact h2)
  rw [Nat.zero_add] at h
  exact h
theorem wl_D_0v {u v b n : Nat} {A y : Int32} (hv : v < 4) (hD : wl_D u v A b n a1 a2 a3 a4 a5) (hn : v ≠ u) (hy : y = nI v) : wl_C a1 a2 0 y (-1) := by
  obtain ⟨bs, hb, _, h1, h1u, h2, _, h2v, _⟩ := hD
  exact wl_C_n 0 v 0 rfl hy (by omega) h1 (by omega) (by rw [Nat.zero_add]; exact h2v hn)
theorem wl_forget {post : Int32 → St2 → Prop} {u v a b : Nat} (hu : u < 4) (ha : a ≤ 99) (hD : wl_D u v (nI a) b 2 a1 a2 a3 a4 a5) (h6 : a6 0 = nI u)
    (H : ∀ b3 b5 : Nat → Int32, wl_D u v (-1) b 1 a1 a2 b3 a4 b5 → post (nI 1) (pen, 0, le, 0, pc, pk, a1, a2, b3, a4, b5, a6, a7, a8, a9, a10, a11)) : wpX_forget post (pen, nI 1, le, fr, pc, pk, a1, a2, a3, a4, a5, a6, a7, a8, a9, a10, a11) := by
  have hC := wl_D_0u hu hD h6
  obtain ⟨bs, hb, hn, h1, h1u, h2, h2w, h2v, h3, h4, h3w, h4w, h50, h5u⟩ := hD
  have hi : vp_in (nI (u + 1)) 512 := pk_in (u + 1) 512 (by omega)
  have hc : (nI (u + 1)).toNatClampNeg = u + 1 := nI_clamp (by omega)
  refine wl_find1 hC (br_f (nI_pos (by omega)) ⟨hi, br_t (by rw [hc, h3]; exact nI_pos' (by omega)) ⟨hi, nm_r (e' := upd a3 (u + 1) (-1)) (by rw [hc]) ?_⟩⟩)
  refine nm_r (e' := upd a5 0 (nI 1)) (by rw [h50]; rfl) ⟨2, ?_⟩
  refine pk_le 1 0 (fun z => absurd z (by omega)) (fun _ => ⟨pk_in 0 5 (by omega), ?_⟩)
  refine hC _ _ _ _ _ _ _ _ _ _ _ _ _ _ _ _ ⟨pk_in 0 512 (by omega), br_f (by rw [sb_cl0, pk_us]; decide) ⟨hi, hi, nm_r (e' := upd (upd a5 0 (nI 1)) (u + 1) (nI 1)) (by rw [hc, pk_un (by omega), h5u]; rfl) (nm_r (nI_1 0) ?_)⟩⟩
  refine pk_le 1 1 (fun _ => ⟨hi, br_f (by rw [hc, pk_us]; decide) ?_⟩) (fun z => absurd z (by omega))
  refine H _ _ ⟨bs, hb, hn, h1, h1u, h2, h2w, h2v, pk_us, h4, ?_, h4w, ?_, pk_us⟩
  · rw [pk_un (by omega), h3w]
  · rw [pk_un (by omega), pk_us]
theorem wl_begin {post : Int32 → Prop} {u v b n : Nat} {A : Int32} (hu : u < 4) (hD : wl_D u v A b n a1 a2 a3 a4 a5) (h6 : a6 0 = nI u) (H : post (nI n)) : wpX_beginning post (pen, nI 1, le, fr, pc, pk, a1, a2, a3, a4, a5, a6, a7, a8, a9, a10, a11) := by
  have hC := wl_D_0u hu hD h6
  obtain ⟨bs, hb, hn, h1, h1u, h2, h2w, h2v, h3, h4, h3w, h4w, h50, h5u⟩ := hD
  refine wl_find1 hC (br_t (nI_pos' (by omega)) ⟨pk_in (u + 1) 512 (by omega), ?_⟩)
  rw [nI_clamp (by omega), h5u]
  exact H
end
end
section
/-! ===== fitPiece ===== -/
/-- fitPiece at place p, length l leaves the cost c and the kind k, whatever the cut holds -/
def wl_F (pen sp le : Int32) (a1 a2 a3 a4 a5 a6 a7 a8 : Nat → Int32) (p l c k : Int32) : Prop := ∀ (post : St2 → Prop) (fr pc pk : Int32) (a9 a10 a11 : Nat → Int32), post (pen, sp, le, fr, c, k, a1, a2, a3, a4, a5, a6, a7, a8, a9, a10, a11) → wpX_fitPiece post (pen, sp, le, fr, pc, pk, a1, a2, a3, a4, a5, a6, a7, a8, a9, a10, a11) p l
section
variable {pen sp le fr pc pk : Int32} {a1 a2 a3 a4 a5 a6 a7 a8 a9 a10 a11 : Nat → Int32}
theorem wl_F_out {n p l : Nat} (h : n < p + l) (hb : p + l ≤ 100) : wl_F pen sp (nI n) a1 a2 a3 a4 a5 a6 a7 a8 (nI p) (nI l) (-1) 3 :=
  fun _ _ _ _ _ _ _ H => pk_le (p + l) n (fun z => absurd z (by omega)) (fun _ => H) (nI_add p l)
theorem wl_fit_e {post : St2 → Prop} {x : Int32} {n p l i : Nat} (hi : l ≤ i) (hb : i ≤ 12) (h : wX_fitPiece_57 post (nI l) x pen sp le fr pc pk a1 a2 a3 a4 a5 a6 a7 a8 a9 a10 a11) : wX_fitPiece_26 post (nI p) (nI l) pen sp le fr pc pk a1 a2 a3 a4 a5 a6 a7 a8 a9 a10 a11 (n + 1) x (nI i) :=
  pk_le l i (fun _ => h) (fun z => absurd z (by omega))
theorem wl_fit_neg {post : St2 → Prop} {x : Int32} {n p l i : Nat} (hi : i < l) (hb : l ≤ 12) (hx : x < 0) (h : wX_fitPiece_57 post (nI l) x pen sp le fr pc pk a1 a2 a3 a4 a5 a6 a7 a8 a9 a10 a11) : wX_fitPiece_26 post (nI p) (nI l) pen sp le fr pc pk a1 a2 a3 a4 a5 a6 a7 a8 a9 a10 a11 (n + 1) x (nI i) :=
  pk_le l i (fun z => absurd z (by omega)) (fun _ => br_t hx h)
theorem wl_fit_s {post : St2 → Prop} {x r : Int32} {n p l i : Nat} (hi : i < l) (hb : l ≤ 12) (hp : p + i < 12) (hx : ¬ x < 0) (hC : wl_C a1 a2 x (a7 (p + i)) r) (h : wX_fitPiece_26 post (nI p) (nI l) pen sp le fr pc pk a1 a2 a3 a4 a5 a6 a7 a8 a9 a10 a11 n r (nI (i + 1))) : wX_fitPiece_26 post (nI p) (nI l) pen sp le fr pc pk a1 a2 a3 a4 a5 a6 a7 a8 a9 a10 a11 (n + 1) x (nI i) := by
  have e : nI p + nI i = nI (p + i) := nI_add p i
  refine pk_le l i (fun z => absurd z (by omega)) (fun _ => br_f hx ⟨pk_in (p + i) 12 hp e, ?_⟩)
  rw [e, nI_clamp (by omega)]
  exact hC _ _ _ _ _ _ _ _ _ _ _ _ _ _ _ _ (nm_r (nI_1 i) h)
theorem wl_57_y {post : St2 → Prop} {x2 k : Int32} {s c : Nat} (hs : s < 512) (hc : c ≤ 99) (h3 : a3 s = nI c) (h4 : a4 s = k) (h : post (pen, sp, le, fr, nI c, k, a1, a2, a3, a4, a5, a6, a7, a8, a9, a10, a11)) : wX_fitPiece_57 post x2 (nI s) pen sp le fr pc pk a1 a2 a3 a4 a5 a6 a7 a8 a9 a10 a11 := by
  have hi : vp_in (nI s) 512 := pk_in s 512 hs
  have hk : (nI s).toNatClampNeg = s := nI_clamp (by omega)
  exact br_f (nI_pos (by omega)) ⟨hi, br_f (by rw [hk, h3]; exact nI_pos (by omega)) ⟨hi, nm_r (by rw [hk, h3]) ⟨hi, nm_r (by rw [hk, h4]) h⟩⟩⟩
theorem wl_57_n {post : St2 → Prop} {x2 x : Int32} (hx : x < 0 ∨ ∃ s, s < 512 ∧ x = nI s ∧ a3 s < 0) (h : wX_fitPiece_93 post x2 pen sp le fr pc pk a1 a2 a3 a4 a5 a6 a7 a8 a9 a10 a11) : wX_fitPiece_57 post x2 x pen sp le fr pc pk a1 a2 a3 a4 a5 a6 a7 a8 a9 a10 a11 := by
  rcases hx with hx | ⟨s, hs, e, h3⟩
  · exact br_t hx h
  · subst e
    exact br_f (nI_pos (by omega)) ⟨pk_in s 512 hs, br_t (by rw [nI_clamp (by omega)]; exact h3) h⟩
theorem wl_F1_y {k : Int32} {n p s c : Nat} (hn : p + 1 ≤ n) (hp : n ≤ 12) (hs : s < 512) (hc : c ≤ 99) (hC : wl_C a1 a2 0 (a7 p) (nI s)) (h3 : a3 s = nI c) (h4 : a4 s = k) : wl_F pen sp (nI n) a1 a2 a3 a4 a5 a6 a7 a8 (nI p) (nI 1) (nI c) k :=
  fun _ _ _ _ _ _ _ H => pk_le (p + 1) n (fun _ => ⟨2, wl_fit_s (i := 0) (by omega) (by omega) (by omega) (by decide) hC (wl_fit_e (by omega) (by omega) (wl_57_y hs hc h3 h4 H))⟩) (fun z => absurd z (by omega)) (nI_add p 1)
theorem wl_F1_n {x : Int32} {n p : Nat} (hn : p + 1 ≤ n) (hp : n ≤ 12) (hC : wl_C a1 a2 0 (a7 p) x) (hx : x < 0 ∨ ∃ s, s < 512 ∧ x = nI s ∧ a3 s < 0) : wl_F pen sp (nI n) a1 a2 a3 a4 a5 a6 a7 a8 (nI p) (nI 1) pen 3 :=
  fun _ _ _ _ _ _ _ H => pk_le (p + 1) n (fun _ => ⟨2, wl_fit_s (i := 0) (by omega) (by omega) (by omega) (by decide) hC (wl_fit_e (by omega) (by omega) (wl_57_n hx (br_t rfl H)))⟩) (fun z => absurd z (by omega)) (nI_add p 1)
theorem wl_F2_y {k x : Int32} {n p s c : Nat} (hn : p + 2 ≤ n) (hp : n ≤ 12) (hs : s < 512) (hc : c ≤ 99) (hC : wl_C a1 a2 0 (a7 p) x) (hx : ¬ x < 0) (hD : wl_C a1 a2 x (a7 (p + 1)) (nI s)) (h3 : a3 s = nI c) (h4 : a4 s = k) : wl_F pen sp (nI n) a1 a2 a3 a4 a5 a6 a7 a8 (nI p) (nI 2) (nI c) k :=
  fun _ _ _ _ _ _ _ H => pk_le (p + 2) n (fun _ => ⟨3, wl_fit_s (i := 0) (by omega) (by omega) (by omega) (by decide) hC (wl_fit_s (i := 1) (by omega) (by omega) (by omega) hx hD (wl_fit_e (by omega) (by omega) (wl_57_y hs hc h3 h4 H)))⟩) (fun z => absurd z (by omega)) (nI_add p 2)
theorem wl_F2_n {x : Int32} {n p : Nat} (hn : p + 2 ≤ n) (hp : n ≤ 12) (hC : wl_C a1 a2 0 (a7 p) x) (hx : x < 0) : wl_F pen sp (nI n) a1 a2 a3 a4 a5 a6 a7 a8 (nI p) (nI 2) (-1) 3 :=
  fun _ _ _ _ _ _ _ H => pk_le (p + 2) n (fun _ => ⟨2, wl_fit_s (i := 0) (by omega) (by omega) (by omega) (by decide) hC (wl_fit_neg (by omega) (by omega) hx (wl_57_n (Or.inl hx) (br_f (by decide) H)))⟩) (fun z => absurd z (by omega)) (nI_add p 2)
end
/-! ===== usePiece ===== -/
def wl_u9 (w x : Int32) : Int32 := if x ≤ w then x else w
def wl_u10 (w x m y : Int32) : Int32 := if x ≤ w then (if w = x then y + m else y) else m
def wl_u11 (w x l y : Int32) : Int32 := if x ≤ w then (if w = x then l else y) else l
section
variable {pen sp le fr pc pk : Int32} {a1 a2 a3 a4 a5 a6 a7 a8 a9 a10 a11 : Nat → Int32}
theorem wl_u55 {post : St2 → Prop} {J : Int32 → (Nat → Int32) → (Nat → Int32) → (Nat → Int32) → (Nat → Int32) → (Nat → Int32) → (Nat → Int32) → (Nat → Int32) → (Nat → Int32) → (Nat → Int32) → (Nat → Int32) → (Nat → Int32) → Prop} {x2 z0 z1 : Int32} {p i r : Nat} (hi : 5 * p + i < 65) (hr : r < 65)
    (H : ∀ c9 c10 c11 : Nat → Int32, (∀ j, j ≠ 5 * p + i → c9 j = a9 j ∧ c10 j = a10 j ∧ c11 j = a11 j) → c9 (5 * p + i) = wl_u9 (z1 + z0) (a9 (5 * p + i)) → c10 (5 * p + i) = wl_u10 (z1 + z0) (a9 (5 * p + i)) (a10 r) (a10 (5 * p + i)) → c11 (5 * p + i) = wl_u11 (z1 + z0) (a9 (5 * p + i)) x2 (a11 (5 * p + i)) → J (nI (i + 1)) a1 a2 a3 a4 a5 a6 a7 a8 c9 c10 c11) :
    wX_usePiece_55 post J (nI p) x2 (nI r) (nI i) z0 z1 pen sp le fr pc pk a1 a2 a3 a4 a5 a6 a7 a8 a9 a10 a11 := by
  have e : (5 : Int32) * nI p + nI i = nI (5 * p + i) := by
    rw [show (5 : Int32) = nI 5 from rfl, pk_mul, nI_add]
  have hv : vp_in (nI (5 * p + i)) 65 := pk_in _ 65 hi
  have hw : vp_in (nI r) 65 := pk_in _ 65 hr
  have hk : (nI (5 * p + i)).toNatClampNeg = 5 * p + i := nI_clamp (by omega)
  have hq : (nI r).toNatClampNeg = r := nI_clamp (by omega)
  refine nm_e (nm_r e ⟨hv, ?_⟩)
  rw [hk, hq]
  refine br_c (fun g => ⟨hv, br_c (fun g2 => ⟨hv, hw, hv, nm_e ⟨hv, nm_e (nm_r (nI_1 i) (H _ _ _ (fun j hj => ⟨rfl, pk_un hj, pk_un hj⟩) ?_ ?_ ?_))⟩⟩) (fun g2 => nm_r (nI_1 i) (H _ _ _ (fun j hj => ⟨rfl, rfl, rfl⟩) ?_ ?_ ?_))⟩) (fun g => ⟨hv, nm_e ⟨hw, hv, nm_e ⟨hv, nm_e (nm_r (nI_1 i) (H _ _ _ (fun j hj => ⟨pk_un hj, pk_un hj, pk_un hj⟩) ?_ ?_ ?_))⟩⟩⟩)
  · rw [wl_u9, if_pos g]
  · rw [wl_u10, if_pos g, if_pos g2, pk_us]
  · rw [wl_u11, if_pos g, if_pos g2, pk_us]
  · rw [wl_u9, if_pos g]
  · rw [wl_u10, if_pos g, if_neg g2]
  · rw [wl_u11, if_pos g, if_neg g2]
  · rw [wl_u9, if_neg g, pk_us]
  · rw [wl_u10, if_neg g, pk_us]
  · rw [wl_u11, if_neg g, pk_us]
/-- what usePiece adds for the kind before -/
def wl_z (a8 : Nat → Int32) (kd k : Nat) : Int32 := if k < 4 then a8 (4 * k + kd) else 0
def wl_w (pc : Int32) (a8 a9 : Nat → Int32) (r kd k : Nat) : Int32 := pc + a9 r + wl_z a8 kd k
theorem wl_use {post : St2 → Prop} {p l kd : Nat} (hl : 1 ≤ l) (hp : p + l ≤ 12) (hk : kd < 4)
    (H : ∀ c9 c10 c11 : Nat → Int32, (∀ j, ¬ (5 * p ≤ j ∧ j < 5 * p + 5) → c9 j = a9 j ∧ c10 j = a10 j ∧ c11 j = a11 j) →
      (∀ k, k < 5 → c9 (5 * p + k) = wl_u9 (wl_w pc a8 a9 (5 * (p + l) + kd) kd k) (a9 (5 * p + k)) ∧ c10 (5 * p + k) = wl_u10 (wl_w pc a8 a9 (5 * (p + l) + kd) kd k) (a9 (5 * p + k)) (a10 (5 * (p + l) + kd)) (a10 (5 * p + k)) ∧ c11 (5 * p + k) = wl_u11 (wl_w pc a8 a9 (5 * (p + l) + kd) kd k) (a9 (5 * p + k)) (nI l) (a11 (5 * p + k))) →
      post (pen, sp, le, fr, pc, nI kd, a1, a2, a3, a4, a5, a6, a7, a8, c9, c10, c11)) : wpX_usePiece post (pen, sp, le, fr, pc, nI kd, a1, a2, a3, a4, a5, a6, a7, a8, a9, a10, a11) (nI p) (nI l) := by
  have e : (5 : Int32) * (nI p + nI l) + nI kd = nI (5 * (p + l) + kd) := by
    rw [show (5 : Int32) = nI 5 from rfl, nI_add, pk_mul, nI_add]
  refine nm_r e ?_
  refine pk_loop (σ := (Nat → Int32) × (Nat → Int32) × (Nat → Int32)) (fun n i s => wX_usePiece_14 post (nI p) (nI l) (nI (5 * (p + l) + kd)) pen sp le fr pc (nI kd) n (nI i) a1 a2 a3 a4 a5 a6 a7 a8 s.1 s.2.1 s.2.2)
    (fun i s => (∀ j, ¬ (5 * p ≤ j ∧ j < 5 * p + i) → s.1 j = a9 j ∧ s.2.1 j = a10 j ∧ s.2.2 j = a11 j) ∧
      (∀ k, k < i → s.1 (5 * p + k) = wl_u9 (wl_w pc a8 a9 (5 * (p + l) + kd) kd k) (a9 (5 * p + k)) ∧ s.2.1 (5 * p + k) = wl_u10 (wl_w pc a8 a9 (5 * (p + l) + kd) kd k) (a9 (5 * p + k)) (a10 (5 * (p + l) + kd)) (a10 (5 * p + k)) ∧ s.2.2 (5 * p + k) = wl_u11 (wl_w pc a8 a9 (5 * (p + l) + kd) kd k) (a9 (5 * p + k)) (nI l) (a11 (5 * p + k)))) 5 0 (a9, a10, a11) (by omega)
    ⟨fun j _ => ⟨rfl, rfl, rfl⟩, fun k hk => absurd hk (by omega)⟩
    (fun n s h => pk_le 5 5 (fun _ => H _ _ _ h.1 h.2) (fun z => absurd z (by omega))) ?_
  intro n i s hi h hw
  obtain ⟨s9, s10, s11⟩ := s
  obtain ⟨h1, h2⟩ := h
  dsimp only at h1 h2
  have hr := h1 (5 * (p + l) + kd) (by omega)
  have ha := h1 (5 * p + i) (by omega)
  have G : ∀ z0 z1 : Int32, z1 = pc + s9 (5 * (p + l) + kd) → z0 = wl_z a8 kd i → wX_usePiece_55 post (wX_usePiece_14 post (nI p) (nI l) (nI (5 * (p + l) + kd)) pen sp le fr pc (nI kd) n) (nI p) (nI l) (nI (5 * (p + l) + kd)) (nI i) z0 z1 pen sp le fr pc (nI kd) a1 a2 a3 a4 a5 a6 a7 a8 s9 s10 s11 := by
    intro z0 z1 e1 e0
    refine wl_u55 (by omega) (by omega) (fun c9 c10 c11 g0 g9 g10 g11 => hw (c9, c10, c11) ⟨fun j hj => ?_, fun k hk => ?_⟩)
    · have t := g0 j (by omega)
      have t2 := h1 j (by omega)
      exact ⟨t.1.trans t2.1, t.2.1.trans t2.2.1, t.2.2.trans t2.2.2⟩
    · dsimp only
      by_cases q : k = i
      · subst q
        rw [g9, g10, g11, e1, e0, hr.1, hr.2.1, ha.1, ha.2.1, ha.2.2]
        exact ⟨rfl, rfl, rfl⟩
      · have t := g0 (5 * p + k) (by omega)
        have t2 := h2 k (by omega)
        exact ⟨t.1.trans t2.1, t.2.1.trans t2.2.1, t.2.2.trans t2.2.2⟩
  have ck : (nI (5 * (p + l) + kd)).toNatClampNeg = 5 * (p + l) + kd := nI_clamp (by omega)
  refine pk_le 5 i (fun z => absurd z (by omega)) (fun _ => ⟨pk_in (5 * (p + l) + kd) 65 (by omega), pk_le 4 i (fun z => G _ _ (by rw [ck]) (by rw [wl_z, if_neg (by omega)])) (fun z => ?_)⟩)
  have e4 : (4 : Int32) * nI i + nI kd = nI (4 * i + kd) := by
    rw [show (4 : Int32) = nI 4 from rfl, pk_mul, nI_add]
  exact ⟨pk_in (4 * i + kd) 16 (by omega) e4, G _ _ (by rw [ck]) (by rw [wl_z, if_pos (by omega), e4, nI_clamp (by omega)])⟩
end
end
section
/-! ===== cutText ===== -/
theorem wl_u9n {w x : Nat} (hw : w < 2 ^ 31) (hx : x < 2 ^ 31) : wl_u9 (nI w) (nI x) = nI (min x w) := by
  unfold wl_u9
  by_cases h : x ≤ w
  · rw [if_pos (nI_le h hw), Nat.min_eq_left h]
  · rw [if_neg (nI_ge (by omega) hx), Nat.min_eq_right (by omega)]
theorem wl_u10n {w x : Nat} {m y : Int32} (hw : w < 2 ^ 31) (hx : x < 2 ^ 31) : wl_u10 (nI w) (nI x) m y = if x < w then y else if w = x then y + m else m := by
  unfold wl_u10
  by_cases h : x ≤ w
  · rw [if_pos (nI_le h hw)]
    by_cases e : w = x
    · rw [if_pos (by rw [e]), if_neg (by omega), if_pos e]
    · rw [if_neg (by rw [nI_eq hw hx]; exact e), if_pos (by omega)]
  · rw [if_neg (nI_ge (by omega) hx), if_neg (by omega), if_neg (by omega)]
theorem wl_u11n {w x : Nat} {l y : Int32} (hw : w < 2 ^ 31) (hx : x < 2 ^ 31) : wl_u11 (nI w) (nI x) l y = if w ≤ x then l else y := by
  unfold wl_u11
  by_cases h : x ≤ w
  · rw [if_pos (nI_le h hw)]
    by_cases e : w = x
    · rw [if_pos (by rw [e]), if_pos (by omega)]
    · rw [if_neg (by rw [nI_eq hw hx]; exact e), if_neg (by omega)]
  · rw [if_neg (nI_ge (by omega) hx), if_pos (by omega)]
section
variable {pen sp le fr pc pk : Int32} {a1 a2 a3 a4 a5 a6 a7 a8 a9 a10 a11 : Nat → Int32} {post : St2 → Prop} {J : Int32 → Int32 → Int32 → Int32 → Int32 → Int32 → Int32 → (Nat → Int32) → (Nat → Int32) → (Nat → Int32) → (Nat → Int32) → (Nat → Int32) → (Nat → Int32) → (Nat → Int32) → (Nat → Int32) → (Nat → Int32) → (Nat → Int32) → (Nat → Int32) → Prop}
theorem wl_117_n {c k : Int32} {p l n : Nat} (hl : l ≤ 5) (hF : wl_F pen sp le a1 a2 a3 a4 a5 a6 a7 a8 (nI p) (nI l) c k) (hc : c < 0) (h : wX_cutText_117 post J (nI p) n (nI (l + 1)) pen sp le fr c k a1 a2 a3 a4 a5 a6 a7 a8 a9 a10 a11) : wX_cutText_117 post J (nI p) (n + 1) (nI l) pen sp le fr pc pk a1 a2 a3 a4 a5 a6 a7 a8 a9 a10 a11 :=
  pk_lt 5 l (fun z => absurd z (by omega)) (fun _ => hF _ _ _ _ _ _ _ (br_t hc (nm_r (nI_1 l) h)))
theorem wl_117_y {c kd p l n : Nat} (h1 : 1 ≤ l) (hl : l ≤ 5) (hp : p + l ≤ 12) (hk : kd < 4) (hc : c ≤ 99) (hF : wl_F pen sp le a1 a2 a3 a4 a5 a6 a7 a8 (nI p) (nI l) (nI c) (nI kd))
    (H : ∀ c9 c10 c11 : Nat → Int32, (∀ j, ¬ (5 * p ≤ j ∧ j < 5 * p + 5) → c9 j = a9 j ∧ c10 j = a10 j ∧ c11 j = a11 j) →
      (∀ k, k < 5 → c9 (5 * p + k) = wl_u9 (wl_w (nI c) a8 a9 (5 * (p + l) + kd) kd k) (a9 (5 * p + k)) ∧ c10 (5 * p + k) = wl_u10 (wl_w (nI c) a8 a9 (5 * (p + l) + kd) kd k) (a9 (5 * p + k)) (a10 (5 * (p + l) + kd)) (a10 (5 * p + k)) ∧ c11 (5 * p + k) = wl_u11 (wl_w (nI c) a8 a9 (5 * (p + l) + kd) kd k) (a9 (5 * p + k)) (nI l) (a11 (5 * p + k))) →
      wX_cutText_117 post J (nI p) n (nI (l + 1)) pen sp le fr (nI c) (nI kd) a1 a2 a3 a4 a5 a6 a7 a8 c9 c10 c11) : wX_cutText_117 post J (nI p) (n + 1) (nI l) pen sp le fr pc pk a1 a2 a3 a4 a5 a6 a7 a8 a9 a10 a11 :=
  pk_lt 5 l (fun z => absurd z (by omega)) (fun _ => hF _ _ _ _ _ _ _ (br_f (nI_pos (by omega)) (wl_use h1 hp hk (fun c9 c10 c11 g0 g => nm_r (nI_1 l) (H c9 c10 c11 g0 g)))))
theorem wl_117_e {x : Int32} {n : Nat} (h : J (x + (-1)) pen sp le fr pc pk a1 a2 a3 a4 a5 a6 a7 a8 a9 a10 a11) : wX_cutText_117 post J x (n + 1) (nI 6) pen sp le fr pc pk a1 a2 a3 a4 a5 a6 a7 a8 a9 a10 a11 :=
  pk_lt 5 6 (fun _ => nm_e h) (fun z => absurd z (by omega))
theorem wl_81 {p : Nat} (hp : p < 12) (H : ∀ c9 c10 : Nat → Int32, (∀ j, ¬ (5 * p ≤ j ∧ j < 5 * p + 5) → c9 j = a9 j ∧ c10 j = a10 j) → (∀ k, k < 5 → c9 (5 * p + k) = nI 1000000 ∧ c10 (5 * p + k) = 0) → ∃ n, wX_cutText_117 post J (nI p) n (nI 1) pen sp le fr pc pk a1 a2 a3 a4 a5 a6 a7 a8 c9 c10 a11) :
    ∃ n, wX_cutText_81 post J (nI p) pen sp le fr pc pk n 0 a1 a2 a3 a4 a5 a6 a7 a8 a9 a10 a11 := by
  refine pk_loop (σ := (Nat → Int32) × (Nat → Int32)) (fun n i s => wX_cutText_81 post J (nI p) pen sp le fr pc pk n (nI i) a1 a2 a3 a4 a5 a6 a7 a8 s.1 s.2 a11)
    (fun i s => (∀ j, ¬ (5 * p ≤ j ∧ j < 5 * p + i) → s.1 j = a9 j ∧ s.2 j = a10 j) ∧ (∀ k, k < i → s.1 (5 * p + k) = nI 1000000 ∧ s.2 (5 * p + k) = 0)) 5 0 (a9, a10) (by omega)
    ⟨fun j _ => ⟨rfl, rfl⟩, fun k hk => absurd hk (by omega)⟩
    (fun n s h => pk_le 5 5 (fun _ => H _ _ h.1 h.2) (fun z => absurd z (by omega))) ?_
  intro n i s hi h hw
  obtain ⟨s9, s10⟩ := s
  obtain ⟨h1, h2⟩ := h
  dsimp only at h1 h2
  have e : (5 : Int32) * nI p + nI i = nI (5 * p + i) := by
    rw [show (5 : Int32) = nI 5 from rfl, pk_mul, nI_add]
  have hv : vp_in ((5 : Int32) * nI p + nI i) 65 := pk_in (5 * p + i) 65 (by omega) e
  have ck : ((5 : Int32) * nI p + nI i).toNatClampNeg = 5 * p + i := pk_cl (5 * p + i) e
  refine pk_le 5 i (fun z => absurd z (by omega)) (fun _ => ⟨hv, nm_r (e' := upd s9 (5 * p + i) (nI 1000000)) (by rw [ck]; rfl) ⟨hv, nm_r (e' := upd s10 (5 * p + i) 0) (by rw [ck]) (nm_r (nI_1 i) (hw (upd s9 (5 * p + i) (nI 1000000), upd s10 (5 * p + i) 0) ⟨fun j hj => ?_, fun k hk => ?_⟩))⟩⟩)
  · dsimp only
    rw [pk_un (by omega), pk_un (by omega)]
    exact h1 j (by omega)
  · dsimp only
    by_cases q : k = i
    · subst q
      exact ⟨pk_us, pk_us⟩
    · rw [pk_un (by omega), pk_un (by omega)]
      exact h2 k (by omega)
theorem wl_15 {m : Nat} (hm : m ≤ 12) (H : ∀ c9 c10 c11 : Nat → Int32, (∀ k, k < 5 → c9 (5 * m + k) = nI 0 ∧ c10 (5 * m + k) = nI 1 ∧ c11 (5 * m + k) = nI 0) → ∃ n, wX_cutText_75 post n (nI m - 1) pen sp (nI m) fr pc pk a1 a2 a3 a4 a5 a6 a7 a8 c9 c10 c11) :
    ∃ n, wX_cutText_15 post pen sp (nI m) fr pc pk n 0 a1 a2 a3 a4 a5 a6 a7 a8 a9 a10 a11 := by
  refine pk_loop (σ := (Nat → Int32) × (Nat → Int32) × (Nat → Int32)) (fun n i s => wX_cutText_15 post pen sp (nI m) fr pc pk n (nI i) a1 a2 a3 a4 a5 a6 a7 a8 s.1 s.2.1 s.2.2)
    (fun i s => ∀ k, k < i → s.1 (5 * m + k) = nI 0 ∧ s.2.1 (5 * m + k) = nI 1 ∧ s.2.2 (5 * m + k) = nI 0) 5 0 (a9, a10, a11) (by omega)
    (fun k hk => absurd hk (by omega))
    (fun n s h => pk_le 5 5 (fun _ => nm_e (H _ _ _ h)) (fun z => absurd z (by omega))) ?_
  intro n i s hi h hw
  obtain ⟨s9, s10, s11⟩ := s
  dsimp only at h
  have e : (5 : Int32) * nI m + nI i = nI (5 * m + i) := by
    rw [show (5 : Int32) = nI 5 from rfl, pk_mul, nI_add]
  have hv : vp_in ((5 : Int32) * nI m + nI i) 65 := pk_in (5 * m + i) 65 (by omega) e
  have ck : ((5 : Int32) * nI m + nI i).toNatClampNeg = 5 * m + i := pk_cl (5 * m + i) e
  refine pk_le 5 i (fun z => absurd z (by omega)) (fun _ => ⟨hv, nm_r (e' := upd s9 (5 * m + i) (nI 0)) (by rw [ck]; rfl) ⟨hv, nm_r (e' := upd s10 (5 * m + i) (nI 1)) (by rw [ck]; rfl) ⟨hv, nm_r (e' := upd s11 (5 * m + i) (nI 0)) (by rw [ck]; rfl) (nm_r (nI_1 i) (hw (upd s9 (5 * m + i) (nI 0), upd s10 (5 * m + i) (nI 1), upd s11 (5 * m + i) (nI 0)) (fun k hk => ?_)))⟩⟩⟩)
  dsimp only
  by_cases q : k = i
  · subst q
    exact ⟨pk_us, pk_us, pk_us⟩
  · rw [pk_un (by omega), pk_un (by omega), pk_un (by omega)]
    exact h k (by omega)
theorem wl_wc {c : Int32} {a8 b9 c9 : Nat → Int32} {r kd k : Nat} (h : b9 r = c9 r) : wl_w c a8 b9 r kd k = wl_w c a8 c9 r kd k := by
  unfold wl_w
  rw [h]
theorem wl_rowA {p m c k1 : Nat} (hm : m ≤ 12) (hp : p + 1 ≤ m) (h3 : m < p + 3) (hk : k1 < 4) (hc : c ≤ 99) (F1 : wl_F pen sp (nI m) a1 a2 a3 a4 a5 a6 a7 a8 (nI p) (nI 1) (nI c) (nI k1)) (F2 : wl_F pen sp (nI m) a1 a2 a3 a4 a5 a6 a7 a8 (nI p) (nI 2) (-1) 3)
    (H : ∀ (pc pk : Int32) (c9 c10 c11 : Nat → Int32), (∀ j, ¬ (5 * p ≤ j ∧ j < 5 * p + 5) → c9 j = a9 j ∧ c10 j = a10 j ∧ c11 j = a11 j) →
      (∀ k, k < 5 → ∀ w, w < 1000000 → wl_w (nI c) a8 a9 (5 * (p + 1) + k1) k1 k = nI w → c9 (5 * p + k) = nI w ∧ c10 (5 * p + k) = a10 (5 * (p + 1) + k1) ∧ c11 (5 * p + k) = nI 1) → J (nI p + (-1)) pen sp (nI m) fr pc pk a1 a2 a3 a4 a5 a6 a7 a8 c9 c10 c11) :
    ∃ n, wX_cutText_81 post J (nI p) pen sp (nI m) fr pc pk n 0 a1 a2 a3 a4 a5 a6 a7 a8 a9 a10 a11 := by
  refine wl_81 (by omega) (fun b9 b10 g0 g => ⟨6, ?_⟩)
  refine wl_117_y (by omega) (by omega) (by omega) hk hc F1 (fun c9 c10 c11 f0 f => ?_)
  refine wl_117_n (by omega) F2 (by decide) (wl_117_n (by omega) (wl_F_out (by omega) (by omega)) (by decide) (wl_117_n (by omega) (wl_F_out (by omega) (by omega)) (by decide) (wl_117_n (by omega) (wl_F_out (by omega) (by omega)) (by decide) (wl_117_e ?_))))
  refine H _ _ _ _ _ (fun j hj => ?_) (fun k hk5 w hw e => ?_)
  · have t := f0 j hj
    have t2 := g0 j hj
    exact ⟨t.1.trans t2.1, t.2.1.trans t2.2, t.2.2⟩
  · have t := f k hk5
    have t2 := g0 (5 * (p + 1) + k1) (by omega)
    have t3 := g k hk5
    rw [wl_wc (c9 := a9) t2.1, e, t3.1, t2.2, wl_u9n (by omega) (by omega), wl_u10n (by omega) (by omega), wl_u11n (by omega) (by omega), Nat.min_eq_right (by omega), if_neg (by omega), if_neg (by omega), if_pos (by omega)] at t
    exact t
theorem wl_rowB {p m c k1 d k2 : Nat} (hm : m ≤ 12) (hp : p + 2 ≤ m) (h3 : m < p + 3) (hk : k1 < 4) (hc : c ≤ 99) (hk2 : k2 < 4) (hd : d ≤ 99) (F1 : wl_F pen sp (nI m) a1 a2 a3 a4 a5 a6 a7 a8 (nI p) (nI 1) (nI c) (nI k1)) (F2 : wl_F pen sp (nI m) a1 a2 a3 a4 a5 a6 a7 a8 (nI p) (nI 2) (nI d) (nI k2))
    (H : ∀ (pc pk : Int32) (c9 c10 c11 : Nat → Int32), (∀ j, ¬ (5 * p ≤ j ∧ j < 5 * p + 5) → c9 j = a9 j ∧ c10 j = a10 j ∧ c11 j = a11 j) →
      (∀ k, k < 5 → ∀ w x, w < 1000000 → x < 1000000 → wl_w (nI c) a8 a9 (5 * (p + 1) + k1) k1 k = nI w → wl_w (nI d) a8 a9 (5 * (p + 2) + k2) k2 k = nI x → c9 (5 * p + k) = nI (min w x) ∧ c10 (5 * p + k) = (if w < x then a10 (5 * (p + 1) + k1) else if x = w then a10 (5 * (p + 1) + k1) + a10 (5 * (p + 2) + k2) else a10 (5 * (p + 2) + k2)) ∧ c11 (5 * p + k) = if x ≤ w then nI 2 else nI 1) → J (nI p + (-1)) pen sp (nI m) fr pc pk a1 a2 a3 a4 a5 a6 a7 a8 c9 c10 c11) :
    ∃ n, wX_cutText_81 post J (nI p) pen sp (nI m) fr pc pk n 0 a1 a2 a3 a4 a5 a6 a7 a8 a9 a10 a11 := by
  refine wl_81 (by omega) (fun b9 b10 g0 g => ⟨6, ?_⟩)
  refine wl_117_y (by omega) (by omega) (by omega) hk hc F1 (fun c9 c10 c11 f0 f => ?_)
  refine wl_117_y (by omega) (by omega) (by omega) hk2 hd F2 (fun d9 d10 d11 q0 q => ?_)
  refine wl_117_n (by omega) (wl_F_out (by omega) (by omega)) (by decide) (wl_117_n (by omega) (wl_F_out (by omega) (by omega)) (by decide) (wl_117_n (by omega) (wl_F_out (by omega) (by omega)) (by decide) (wl_117_e ?_)))
  refine H _ _ _ _ _ (fun j hj => ?_) (fun k hk5 w x hw hx e e2 => ?_)
  · have t := f0 j hj
    have t2 := g0 j hj
    have t3 := q0 j hj
    exact ⟨t3.1.trans (t.1.trans t2.1), t3.2.1.trans (t.2.1.trans t2.2), t3.2.2.trans t.2.2⟩
  · have t := f k hk5
    have t2 := g0 (5 * (p + 1) + k1) (by omega)
    have t3 := g k hk5
    rw [wl_wc (c9 := a9) t2.1, e, t3.1, t2.2, wl_u9n (by omega) (by omega), wl_u10n (by omega) (by omega), wl_u11n (by omega) (by omega), Nat.min_eq_right (by omega), if_neg (by omega), if_neg (by omega), if_pos (by omega)] at t
    have s := q k hk5
    have s2 := g0 (5 * (p + 2) + k2) (by omega)
    have s3 := f0 (5 * (p + 2) + k2) (by omega)
    rw [wl_wc (c9 := a9) (s3.1.trans s2.1), e2, t.1, t.2.1, t.2.2, s3.2.1.trans s2.2, wl_u9n (by omega) (by omega), wl_u10n (by omega) (by omega), wl_u11n (by omega) (by omega)] at s
    exact s
theorem wl_75_e {n : Nat} {x : Int32} (hx : x < 0) (h : post (pen, sp, le, fr, pc, pk, a1, a2, a3, a4, a5, a6, a7, a8, a9, a10, a11)) : wX_cutText_75 post (n + 1) x pen sp le fr pc pk a1 a2 a3 a4 a5 a6 a7 a8 a9 a10 a11 := br_t hx h
theorem wl_75_s {n p : Nat} (hp : p < 12) (h : ∃ fu, wX_cutText_81 post (wX_cutText_75 post n) (nI p) pen sp le fr pc pk fu 0 a1 a2 a3 a4 a5 a6 a7 a8 a9 a10 a11) : wX_cutText_75 post (n + 1) (nI p) pen sp le fr pc pk a1 a2 a3 a4 a5 a6 a7 a8 a9 a10 a11 := br_f (nI_pos (by omega)) h
end
/-- cutText over these fields leaves a cut of which Q holds, and is fresh -/
def wl_K (pen sp le : Int32) (a1 a2 a3 a4 a5 a6 a7 a8 : Nat → Int32) (Q : (Nat → Int32) → (Nat → Int32) → (Nat → Int32) → Prop) : Prop := ∀ (post : St2 → Prop) (pc pk : Int32) (a9 a10 a11 : Nat → Int32), (∀ (pc pk : Int32) (c9 c10 c11 : Nat → Int32), Q c9 c10 c11 → post (pen, sp, le, 1, pc, pk, a1, a2, a3, a4, a5, a6, a7, a8, c9, c10, c11)) → wpX_cutText post (pen, sp, le, 0, pc, pk, a1, a2, a3, a4, a5, a6, a7, a8, a9, a10, a11)
section
variable {pen sp le fr pc pk : Int32} {a1 a2 a3 a4 a5 a6 a7 a8 a9 a10 a11 : Nat → Int32}
theorem wl_K0 : wl_K pen sp (nI 0) a1 a2 a3 a4 a5 a6 a7 a8 (fun c9 c10 _ => c9 4 = nI 0 ∧ c10 4 = nI 1) :=
  fun _ _ _ _ _ _ H => br_t rfl (wl_15 (by omega) (fun c9 c10 c11 g => ⟨1, wl_75_e (by decide) (H _ _ _ _ _ ⟨(g 4 (by omega)).1, (g 4 (by omega)).2.1⟩)⟩))
theorem wl_z4 {a8 : Nat → Int32} {k : Nat} : wl_z a8 k 4 = nI 0 := if_neg (by omega)
theorem wl_K1 {c k : Nat} (hk : k < 4) (hc : c ≤ 99) (F1 : wl_F pen sp (nI 1) a1 a2 a3 a4 a5 a6 a7 a8 (nI 0) (nI 1) (nI c) (nI k)) : wl_K pen sp (nI 1) a1 a2 a3 a4 a5 a6 a7 a8 (fun c9 c10 c11 => c9 4 = nI c ∧ c10 4 = nI 1 ∧ c11 4 = nI 1) := by
  intro post pc pk a9 a10 a11 H
  refine br_t rfl (wl_15 (by omega) (fun b9 b10 b11 g => ⟨2, wl_75_s (p := 0) (by omega) (wl_rowA (by omega) (by omega) (by omega) hk hc F1 (wl_F_out (by omega) (by omega)) (fun pc pk c9 c10 c11 _ f => wl_75_e (by decide) (H _ _ _ _ _ ?_)))⟩))
  have t := f 4 (by omega) c (by omega) (by
    have t := g k (by omega)
    unfold wl_w
    rw [wl_z4, show 5 * (0 + 1) + k = 5 * 1 + k by omega, t.1, nI_add, nI_add]
    rfl)
  have t2 := g k (by omega)
  rw [show 5 * (0 + 1) + k = 5 * 1 + k by omega, t2.2.1] at t
  exact t
/-- the cut of two letters: in two pieces for T, the first of kind k, or in one for b -/
def wl_Q (T b k : Nat) (c9 c10 c11 : Nat → Int32) : Prop := c9 4 = nI (min T b) ∧ c10 4 = nI (if T = b then 2 else 1) ∧ c11 4 = nI (if b ≤ T then 2 else 1) ∧ c11 (5 + k) = nI 1
theorem wl_K2 {c1 k1 c2 k2 z b kb t : Nat} (hk1 : k1 < 4) (hc1 : c1 ≤ 99) (hk2 : k2 < 4) (hc2 : c2 ≤ 99) (hkb : kb < 4) (hb : b ≤ 99) (hz : z ≤ 99) (h8 : a8 (4 * k1 + k2) = nI z) (ht : t = c1 + (c2 + z))
    (F01 : wl_F pen sp (nI 2) a1 a2 a3 a4 a5 a6 a7 a8 (nI 0) (nI 1) (nI c1) (nI k1)) (F11 : wl_F pen sp (nI 2) a1 a2 a3 a4 a5 a6 a7 a8 (nI 1) (nI 1) (nI c2) (nI k2)) (F02 : wl_F pen sp (nI 2) a1 a2 a3 a4 a5 a6 a7 a8 (nI 0) (nI 2) (nI b) (nI kb)) : wl_K pen sp (nI 2) a1 a2 a3 a4 a5 a6 a7 a8 (wl_Q t b k1) := by
  intro post pc pk a9 a10 a11 H
  refine br_t rfl (wl_15 (by omega) (fun b9 b10 b11 g => ⟨3, wl_75_s (p := 1) (by omega) (wl_rowA (by omega) (by omega) (by omega) hk2 hc2 F11 (wl_F_out (by omega) (by omega)) (fun pc pk c9 c10 c11 f0 f => ?_))⟩))
  refine wl_75_s (p := 0) (by omega) (wl_rowB (by omega) (by omega) (by omega) hk1 hc1 hkb hb F01 F02 (fun pc pk d9 d10 d11 q0 q => wl_75_e (by decide) (H _ _ _ _ _ ?_)))
  have r := f k1 (by omega) (c2 + 0 + z) (by omega) (by
    have s := g k2 (by omega)
    unfold wl_w wl_z
    rw [if_pos hk1, h8, show 5 * (1 + 1) + k2 = 5 * 2 + k2 by omega, s.1, nI_add, nI_add])
  rw [show 5 * (1 + 1) + k2 = 5 * 2 + k2 by omega, (g k2 (by omega)).2.1] at r
  have o := f0 (5 * 2 + kb) (by omega)
  have ob := g kb (by omega)
  have y := q 4 (by omega) (c1 + (c2 + 0 + z) + 0) (b + 0 + 0) (by omega) (by omega) (by
    unfold wl_w
    rw [wl_z4, show 5 * (0 + 1) + k1 = 5 * 1 + k1 by omega, r.1, nI_add, nI_add]) (by
    unfold wl_w
    rw [wl_z4, show 5 * (0 + 2) + kb = 5 * 2 + kb by omega, o.1, ob.1, nI_add, nI_add])
  rw [show 5 * (0 + 1) + k1 = 5 * 1 + k1 by omega, show 5 * (0 + 2) + kb = 5 * 2 + kb by omega, r.2.1, o.2.1, ob.2.1, show c1 + (c2 + 0 + z) + 0 = t by omega, show b + 0 + 0 = b by omega] at y
  refine ⟨y.1, y.2.1.trans ?_, y.2.2.trans ?_, (q0 (5 + k1) (by omega)).2.2.trans r.2.2⟩
  · by_cases e : t < b
    · rw [if_pos e, if_neg (by omega)]
    · rw [if_neg e]
      by_cases e2 : b = t
      · rw [if_pos e2, if_pos e2.symm, nI_add]
      · rw [if_neg e2, if_neg (fun z => e2 z.symm)]
  · by_cases e : b ≤ t
    · rw [if_pos e, if_pos e]
    · rw [if_neg e, if_neg e]
theorem wl_K2n {c1 k1 c2 k2 z t : Nat} (hk1 : k1 < 4) (hc1 : c1 ≤ 99) (hk2 : k2 < 4) (hc2 : c2 ≤ 99) (hz : z ≤ 99) (h8 : a8 (4 * k1 + k2) = nI z) (ht : t = c1 + (c2 + z))
    (F01 : wl_F pen sp (nI 2) a1 a2 a3 a4 a5 a6 a7 a8 (nI 0) (nI 1) (nI c1) (nI k1)) (F11 : wl_F pen sp (nI 2) a1 a2 a3 a4 a5 a6 a7 a8 (nI 1) (nI 1) (nI c2) (nI k2)) (F02 : wl_F pen sp (nI 2) a1 a2 a3 a4 a5 a6 a7 a8 (nI 0) (nI 2) (-1) 3) : wl_K pen sp (nI 2) a1 a2 a3 a4 a5 a6 a7 a8 (fun c9 _ _ => c9 4 = nI t) := by
  intro post pc pk a9 a10 a11 H
  refine br_t rfl (wl_15 (by omega) (fun b9 b10 b11 g => ⟨3, wl_75_s (p := 1) (by omega) (wl_rowA (by omega) (by omega) (by omega) hk2 hc2 F11 (wl_F_out (by omega) (by omega)) (fun pc pk c9 c10 c11 f0 f => ?_))⟩))
  refine wl_75_s (p := 0) (by omega) (wl_rowA (by omega) (by omega) (by omega) hk1 hc1 F01 F02 (fun pc pk d9 d10 d11 q0 q => wl_75_e (by decide) (H _ _ _ _ _ ?_)))
  have r := f k1 (by omega) (c2 + 0 + z) (by omega) (by
    have s := g k2 (by omega)
    unfold wl_w wl_z
    rw [if_pos hk1, h8, show 5 * (1 + 1) + k2 = 5 * 2 + k2 by omega, s.1, nI_add, nI_add])
  have y := q 4 (by omega) (c1 + (c2 + 0 + z) + 0) (by omega) (by
    unfold wl_w
    rw [wl_z4, show 5 * (0 + 1) + k1 = 5 * 1 + k1 by omega, r.1, nI_add, nI_add])
  rw [show c1 + (c2 + 0 + z) + 0 = t by omega] at y
  exact y.1
/-! ===== cost, ways, start ===== -/
theorem wl_cost {post : Int32 → St2 → Prop} {Q : (Nat → Int32) → (Nat → Int32) → (Nat → Int32) → Prop} (hK : wl_K pen sp le a1 a2 a3 a4 a5 a6 a7 a8 Q) (H : ∀ (pc pk : Int32) (c9 c10 c11 : Nat → Int32), Q c9 c10 c11 → post (c9 4) (pen, sp, le, 1, pc, pk, a1, a2, a3, a4, a5, a6, a7, a8, c9, c10, c11)) : wpX_cost post (pen, sp, le, 0, pc, pk, a1, a2, a3, a4, a5, a6, a7, a8, a9, a10, a11) := by
  unfold wpX_cost
  exact hK _ _ _ _ _ _ H
theorem wl_ways {post : Int32 → St2 → Prop} (h : post (a10 4) (pen, sp, le, 1, pc, pk, a1, a2, a3, a4, a5, a6, a7, a8, a9, a10, a11)) : wpX_ways post (pen, sp, le, 1, pc, pk, a1, a2, a3, a4, a5, a6, a7, a8, a9, a10, a11) := by
  unfold wpX_ways
  exact br_f (by decide) h
theorem wl_st_e {post : Int32 → St2 → Prop} {x2 x3 : Int32} {m i n : Nat} (hm : m ≤ i) (hi : i < 12) (h : post x2 (pen, sp, le, fr, pc, pk, a1, a2, a3, a4, a5, a6, a7, a8, a9, a10, a11)) : wX_start_17 post (nI m) (n + 1) x2 x3 (nI i) pen sp le fr pc pk a1 a2 a3 a4 a5 a6 a7 a8 a9 a10 a11 :=
  pk_le 12 i (fun z => absurd z (by omega)) (fun _ => pk_le m i (fun _ => pk_le m 12 (fun _ => h) (fun z => absurd z (by omega))) (fun z => absurd z (by omega)))
theorem wl_st_o {post : Int32 → St2 → Prop} {x2 x3 : Int32} {m i n : Nat} (hm : i < m) (hm2 : m ≤ 12) (hx : ¬ x2 < le) (h : post (-1) (pen, sp, le, fr, pc, pk, a1, a2, a3, a4, a5, a6, a7, a8, a9, a10, a11)) : wX_start_17 post (nI m) (n + 1) x2 x3 (nI i) pen sp le fr pc pk a1 a2 a3 a4 a5 a6 a7 a8 a9 a10 a11 :=
  pk_le 12 i (fun z => absurd z (by omega)) (fun _ => pk_le m i (fun z => absurd z (by omega)) (fun _ => br_f hx h))
theorem wl_st_s {post : Int32 → St2 → Prop} {c k : Int32} {m i n pl kd l N : Nat} (hm : i < m) (hm2 : m ≤ 12) (hp : pl < N) (hN : N ≤ 12) (hk : kd < 5) (h11 : a11 (5 * pl + kd) = nI l) (hF : wl_F pen sp (nI N) a1 a2 a3 a4 a5 a6 a7 a8 (nI pl) (nI l) c k) (h : wX_start_17 post (nI m) n (nI (pl + l)) k (nI (i + 1)) pen sp (nI N) fr c k a1 a2 a3 a4 a5 a6 a7 a8 a9 a10 a11) : wX_start_17 post (nI m) (n + 1) (nI pl) (nI kd) (nI i) pen sp (nI N) fr pc pk a1 a2 a3 a4 a5 a6 a7 a8 a9 a10 a11 := by
  have e : (5 : Int32) * nI pl + nI kd = nI (5 * pl + kd) := by
    rw [show (5 : Int32) = nI 5 from rfl, pk_mul, nI_add]
  have hv : vp_in ((5 : Int32) * nI pl + nI kd) 65 := pk_in (5 * pl + kd) 65 (by omega) e
  have ck : ((5 : Int32) * nI pl + nI kd).toNatClampNeg = 5 * pl + kd := pk_cl (5 * pl + kd) e
  exact pk_le 12 i (fun z => absurd z (by omega)) (fun _ => pk_le m i (fun z => absurd z (by omega)) (fun _ => pk_lt pl N (fun _ => ⟨hv, nm_r (e' := nI l) (by rw [ck, h11]) (hF _ _ _ _ _ _ _ (nm_r (nI_add pl l) (nm_r (nI_1 i) h)))⟩) (fun z => absurd z (by omega))))
theorem wl_start {post : Int32 → St2 → Prop} {m : Nat} (hm : m ≤ 12) (h : ∃ fu, wX_start_17 post (nI m) fu 0 4 0 pen sp le 1 pc pk a1 a2 a3 a4 a5 a6 a7 a8 a9 a10 a11) : wpX_start post (pen, sp, le, 1, pc, pk, a1, a2, a3, a4, a5, a6, a7, a8, a9, a10, a11) (nI m) :=
  br_t (nI_pos' (by omega)) (br_f (by decide) h)
theorem wl_start_m {post : Int32 → St2 → Prop} (h : post (-1) (pen, sp, le, fr, pc, pk, a1, a2, a3, a4, a5, a6, a7, a8, a9, a10, a11)) : wpX_start post (pen, sp, le, fr, pc, pk, a1, a2, a3, a4, a5, a6, a7, a8, a9, a10, a11) (-1) := br_f (by decide) h
theorem wl_start0 {post : Int32 → St2 → Prop} (h : post 0 (pen, sp, le, 1, pc, pk, a1, a2, a3, a4, a5, a6, a7, a8, a9, a10, a11)) : wpX_start post (pen, sp, le, 1, pc, pk, a1, a2, a3, a4, a5, a6, a7, a8, a9, a10, a11) 0 :=
  wl_start (m := 0) (by omega) ⟨1, wl_st_e (m := 0) (i := 0) (by omega) (by omega) h⟩
theorem wl_start1 {post : Int32 → St2 → Prop} {c k : Int32} {l N : Nat} (h0 : 0 < N) (hN : N ≤ 12) (h11 : a11 4 = nI l) (hF : wl_F pen sp (nI N) a1 a2 a3 a4 a5 a6 a7 a8 (nI 0) (nI l) c k) (h : ∀ pc pk : Int32, post (nI l) (pen, sp, nI N, 1, pc, pk, a1, a2, a3, a4, a5, a6, a7, a8, a9, a10, a11)) : wpX_start post (pen, sp, nI N, 1, pc, pk, a1, a2, a3, a4, a5, a6, a7, a8, a9, a10, a11) 1 := by
  have h' := h c k
  rw [← Nat.zero_add l] at h'
  exact wl_start (m := 1) (by omega) ⟨2, wl_st_s (pl := 0) (kd := 4) (i := 0) (by omega) (by omega) h0 hN (by omega) h11 hF (wl_st_e (m := 1) (i := 1) (by omega) (by omega) h')⟩
/-- the first piece is the whole text of two letters -/
theorem wl_startB {post : Int32 → St2 → Prop} {c k : Int32} {m : Nat} (h1 : 1 < m) (hm : m ≤ 12) (h11 : a11 4 = nI 2) (hF : wl_F pen sp (nI 2) a1 a2 a3 a4 a5 a6 a7 a8 (nI 0) (nI 2) c k) (h : ∀ pc pk : Int32, post (-1) (pen, sp, nI 2, 1, pc, pk, a1, a2, a3, a4, a5, a6, a7, a8, a9, a10, a11)) : wpX_start post (pen, sp, nI 2, 1, pc, pk, a1, a2, a3, a4, a5, a6, a7, a8, a9, a10, a11) (nI m) :=
  wl_start hm ⟨2, wl_st_s (pl := 0) (kd := 4) (i := 0) (by omega) (by omega) (by omega) (by omega) (by omega) h11 hF (wl_st_o (i := 1) (by omega) (by omega) (by decide) (h _ _))⟩
theorem wl_startA2 {post : Int32 → St2 → Prop} {c c' k' : Int32} {k : Nat} (hk : k < 4) (h11 : a11 4 = nI 1) (h12 : a11 (5 + k) = nI 1) (hF : wl_F pen sp (nI 2) a1 a2 a3 a4 a5 a6 a7 a8 (nI 0) (nI 1) c (nI k)) (hG : wl_F pen sp (nI 2) a1 a2 a3 a4 a5 a6 a7 a8 (nI 1) (nI 1) c' k') (h : ∀ pc pk : Int32, post (nI 2) (pen, sp, nI 2, 1, pc, pk, a1, a2, a3, a4, a5, a6, a7, a8, a9, a10, a11)) : wpX_start post (pen, sp, nI 2, 1, pc, pk, a1, a2, a3, a4, a5, a6, a7, a8, a9, a10, a11) (nI 2) :=
  wl_start (by omega) ⟨3, wl_st_s (pl := 0) (kd := 4) (i := 0) (by omega) (by omega) (by omega) (by omega) (by omega) h11 hF (wl_st_s (pl := 1) (kd := k) (i := 1) (by omega) (by omega) (by omega) (by omega) (by omega) h12 hG (wl_st_e (m := 2) (i := 2) (by omega) (by omega) (h _ _)))⟩
theorem wl_startA3 {post : Int32 → St2 → Prop} {c c' k' : Int32} {k : Nat} (hk : k < 4) (h11 : a11 4 = nI 1) (h12 : a11 (5 + k) = nI 1) (hF : wl_F pen sp (nI 2) a1 a2 a3 a4 a5 a6 a7 a8 (nI 0) (nI 1) c (nI k)) (hG : wl_F pen sp (nI 2) a1 a2 a3 a4 a5 a6 a7 a8 (nI 1) (nI 1) c' k') (h : ∀ pc pk : Int32, post (-1) (pen, sp, nI 2, 1, pc, pk, a1, a2, a3, a4, a5, a6, a7, a8, a9, a10, a11)) : wpX_start post (pen, sp, nI 2, 1, pc, pk, a1, a2, a3, a4, a5, a6, a7, a8, a9, a10, a11) (nI 3) :=
  wl_start (by omega) ⟨3, wl_st_s (pl := 0) (kd := 4) (i := 0) (by omega) (by omega) (by omega) (by omega) (by omega) h11 hF (wl_st_s (pl := 1) (kd := k) (i := 1) (by omega) (by omega) (by omega) (by omega) (by omega) h12 hG (wl_st_o (i := 2) (by omega) (by omega) (by decide) (h _ _)))⟩
end
end
section
/-! ===== the pieces that fit, the cuts of the law's texts ===== -/
section
variable {pen sp le fr pc pk : Int32} {a1 a2 a3 a4 a5 a6 a7 a8 a9 a10 a11 : Nat → Int32}
theorem wl_Fu {u v a b n q m : Nat} (hu : u < 4) (ha : a ≤ 99) (hD : wl_D u v (nI a) b n a1 a2 a3 a4 a5) (h7 : a7 q = nI u) (hm : q + 1 ≤ m) (hm2 : m ≤ 12) : wl_F pen sp (nI m) a1 a2 a3 a4 a5 a6 a7 a8 (nI q) (nI 1) (nI a) (nI 1) := by
  have hC := wl_D_0u hu hD h7
  obtain ⟨bs, hb, hn, h1, h1u, h2, h2w, h2v, h3, h4, h3w, h4w, h50, h5u⟩ := hD
  exact wl_F1_y hm hm2 (by omega) ha hC h3 h4
theorem wl_Fx {u v b n q m : Nat} (hu : u < 4) (hD : wl_D u v (-1) b n a1 a2 a3 a4 a5) (h7 : a7 q = nI u) (hm : q + 1 ≤ m) (hm2 : m ≤ 12) : wl_F pen sp (nI m) a1 a2 a3 a4 a5 a6 a7 a8 (nI q) (nI 1) pen (nI 3) := by
  have hC := wl_D_0u hu hD h7
  obtain ⟨bs, hb, hn, h1, h1u, h2, h2w, h2v, h3, h4, h3w, h4w, h50, h5u⟩ := hD
  exact wl_F1_n hm hm2 hC (Or.inr ⟨u + 1, by omega, rfl, by rw [h3]; decide⟩)
theorem wl_Fv {u v b n q m : Nat} {A : Int32} (hv : v < 4) (hD : wl_D u v A b n a1 a2 a3 a4 a5) (e : v ≠ u) (h7 : a7 q = nI v) (hm : q + 1 ≤ m) (hm2 : m ≤ 12) : wl_F pen sp (nI m) a1 a2 a3 a4 a5 a6 a7 a8 (nI q) (nI 1) pen (nI 3) :=
  wl_F1_n hm hm2 (wl_D_0v hv hD e h7) (Or.inl (by decide))
theorem wl_Fuv {u v b n q m : Nat} {A : Int32} (hu : u < 4) (hv : v < 4) (hb : b ≤ 99) (hD : wl_D u v A b n a1 a2 a3 a4 a5) (h7 : a7 q = nI u) (h8 : a7 (q + 1) = nI v) (hm : q + 2 ≤ m) (hm2 : m ≤ 12) : wl_F pen sp (nI m) a1 a2 a3 a4 a5 a6 a7 a8 (nI q) (nI 2) (nI b) (nI 2) := by
  have hC := wl_D_0u hu hD h7
  obtain ⟨bs, hb', hn, h1, h1u, h2, h2w, h2v, h3, h4, h3w, h4w, h50, h5u⟩ := hD
  exact wl_F2_y hm hm2 (by omega) hb hC (nI_pos (by omega)) (wl_C_y (u + 1) v bs rfl h8 (by omega) h1u (by omega) h2w) h3w h4w
theorem wl_Fvx {u v b n q m : Nat} {A : Int32} (hv : v < 4) (hD : wl_D u v A b n a1 a2 a3 a4 a5) (e : v ≠ u) (h7 : a7 q = nI v) (hm : q + 2 ≤ m) (hm2 : m ≤ 12) : wl_F pen sp (nI m) a1 a2 a3 a4 a5 a6 a7 a8 (nI q) (nI 2) (-1) 3 :=
  wl_F2_n hm hm2 (wl_D_0v hv hD e h7) (by decide)
/-- all that the law holds of the object when both letters are typed -/
def wl_H (u v a b p j t : Nat) (a1 a2 a3 a4 a5 a7 a8 : Nat → Int32) : Prop := u < 4 ∧ v < 4 ∧ a ≤ 99 ∧ b ≤ 99 ∧ p ≤ 99 ∧ j ≤ 99 ∧ t = (if u = v then a + a else a + j + p) ∧ wl_D u v (nI a) b 2 a1 a2 a3 a4 a5 ∧ a7 0 = nI u ∧ a7 1 = nI v ∧ a8 5 = nI 0 ∧ a8 7 = nI j ∧ a8 15 = nI 0
theorem wl_H_01 {u v a b p j t : Nat} (h : wl_H u v a b p j t a1 a2 a3 a4 a5 a7 a8) : wl_F pen sp (nI 2) a1 a2 a3 a4 a5 a6 a7 a8 (nI 0) (nI 1) (nI a) (nI 1) := by
  obtain ⟨hu, hv, ha, hb, hp, hj, ht, hD, h70, h71, h85, h87, h815⟩ := h
  exact wl_Fu hu ha hD h70 (by omega) (by omega)
theorem wl_H_02 {u v a b p j t : Nat} (h : wl_H u v a b p j t a1 a2 a3 a4 a5 a7 a8) : wl_F pen sp (nI 2) a1 a2 a3 a4 a5 a6 a7 a8 (nI 0) (nI 2) (nI b) (nI 2) := by
  obtain ⟨hu, hv, ha, hb, hp, hj, ht, hD, h70, h71, h85, h87, h815⟩ := h
  exact wl_Fuv hu hv hb hD h70 h71 (by omega) (by omega)
theorem wl_H_11 {u v a b p j t : Nat} (h : wl_H u v a b p j t a1 a2 a3 a4 a5 a7 a8) : ∃ c k : Int32, wl_F pen sp (nI 2) a1 a2 a3 a4 a5 a6 a7 a8 (nI 1) (nI 1) c k := by
  obtain ⟨hu, hv, ha, hb, hp, hj, ht, hD, h70, h71, h85, h87, h815⟩ := h
  by_cases e : v = u
  · exact ⟨_, _, wl_Fu hu ha hD (by rw [h71, e]) (by omega) (by omega)⟩
  · exact ⟨_, _, wl_Fv hv hD e h71 (by omega) (by omega)⟩
theorem wl_KA {u v a b p j t : Nat} (h : wl_H u v a b p j t a1 a2 a3 a4 a5 a7 a8) : wl_K (nI p) sp (nI 2) a1 a2 a3 a4 a5 a6 a7 a8 (wl_Q t b 1) := by
  have F01 := wl_H_01 (pen := nI p) (sp := sp) (a6 := a6) h
  have F02 := wl_H_02 (pen := nI p) (sp := sp) (a6 := a6) h
  obtain ⟨hu, hv, ha, hb, hp, hj, ht, hD, h70, h71, h85, h87, h815⟩ := h
  by_cases e : u = v
  · rw [if_pos e] at ht
    exact wl_K2 (k2 := 1) (z := 0) (by omega) ha (by omega) ha (by omega) hb (by omega) h85 (by omega) F01 (wl_Fu hu ha hD (by rw [h71, e]) (by omega) (by omega)) F02
  · rw [if_neg e] at ht
    exact wl_K2 (k2 := 3) (z := j) (by omega) ha (by omega) hp (by omega) hb hj h87 (by omega) F01 (wl_Fv hv hD (fun z => e z.symm) h71 (by omega) (by omega)) F02
theorem wl_KB {u v b p n : Nat} (hu : u < 4) (hv : v < 4) (hb : b ≤ 99) (hp : p ≤ 99) (hD : wl_D u v (-1) b n a1 a2 a3 a4 a5) (h70 : a7 0 = nI u) (h71 : a7 1 = nI v) (h8 : a8 15 = nI 0) : wl_K (nI p) sp (nI 2) a1 a2 a3 a4 a5 a6 a7 a8 (wl_Q (p + p) b 3) := by
  by_cases e : v = u
  · exact wl_K2 (k2 := 3) (z := 0) (by omega) hp (by omega) hp (by omega) hb (by omega) h8 (by omega) (wl_Fx hu hD h70 (by omega) (by omega)) (wl_Fx hu hD (by rw [h71, e]) (by omega) (by omega)) (wl_Fuv hu hv hb hD h70 h71 (by omega) (by omega))
  · exact wl_K2 (k2 := 3) (z := 0) (by omega) hp (by omega) hp (by omega) hb (by omega) h8 (by omega) (wl_Fx hu hD h70 (by omega) (by omega)) (wl_Fv hv hD e h71 (by omega) (by omega)) (wl_Fuv hu hv hb hD h70 h71 (by omega) (by omega))
theorem wl_KC {u v b p n : Nat} (hu : u < 4) (hv : v < 4) (hp : p ≤ 99) (hD : wl_D u v (-1) b n a1 a2 a3 a4 a5) (e : v ≠ u) (h70 : a7 0 = nI v) (h71 : a7 1 = nI u) (h8 : a8 15 = nI 0) : wl_K (nI p) sp (nI 2) a1 a2 a3 a4 a5 a6 a7 a8 (fun c9 _ _ => c9 4 = nI (p + p)) :=
  wl_K2n (k1 := 3) (k2 := 3) (z := 0) (by omega) hp (by omega) hp (by omega) h8 (by omega) (wl_Fv hv hD e h70 (by omega) (by omega)) (wl_Fx hu hD h71 (by omega) (by omega)) (wl_Fvx hv hD e h70 (by omega) (by omega))
theorem wl_start_1 {post : Int32 → St2 → Prop} {u v a b p j t : Nat} (h : wl_H u v a b p j t a1 a2 a3 a4 a5 a7 a8) (q : wl_Q t b 1 a9 a10 a11) (H : ∀ pc pk : Int32, post (nI (if b ≤ t then 2 else 1)) (pen, sp, nI 2, 1, pc, pk, a1, a2, a3, a4, a5, a6, a7, a8, a9, a10, a11)) : wpX_start post (pen, sp, nI 2, 1, pc, pk, a1, a2, a3, a4, a5, a6, a7, a8, a9, a10, a11) 1 := by
  by_cases e : b ≤ t
  · rw [if_pos e] at H
    exact wl_start1 (by omega) (by omega) (by rw [q.2.2.1, if_pos e]) (wl_H_02 h) H
  · rw [if_neg e] at H
    exact wl_start1 (by omega) (by omega) (by rw [q.2.2.1, if_neg e]) (wl_H_01 h) H
theorem wl_start_2 {post : Int32 → St2 → Prop} {u v a b p j t : Nat} (h : wl_H u v a b p j t a1 a2 a3 a4 a5 a7 a8) (q : wl_Q t b 1 a9 a10 a11) (H : ∀ pc pk : Int32, post (if b ≤ t then -1 else nI 2) (pen, sp, nI 2, 1, pc, pk, a1, a2, a3, a4, a5, a6, a7, a8, a9, a10, a11)) : wpX_start post (pen, sp, nI 2, 1, pc, pk, a1, a2, a3, a4, a5, a6, a7, a8, a9, a10, a11) 2 := by
  by_cases e : b ≤ t
  · rw [if_pos e] at H
    exact wl_startB (m := 2) (by omega) (by omega) (by rw [q.2.2.1, if_pos e]) (wl_H_02 h) H
  · rw [if_neg e] at H
    obtain ⟨c, k, F⟩ := wl_H_11 (pen := pen) (sp := sp) (a6 := a6) h
    exact wl_startA2 (by omega) (by rw [q.2.2.1, if_neg e]) q.2.2.2 (wl_H_01 h) F H
theorem wl_start_3 {post : Int32 → St2 → Prop} {u v a b p j t : Nat} (h : wl_H u v a b p j t a1 a2 a3 a4 a5 a7 a8) (q : wl_Q t b 1 a9 a10 a11) (H : ∀ pc pk : Int32, post (-1) (pen, sp, nI 2, 1, pc, pk, a1, a2, a3, a4, a5, a6, a7, a8, a9, a10, a11)) : wpX_start post (pen, sp, nI 2, 1, pc, pk, a1, a2, a3, a4, a5, a6, a7, a8, a9, a10, a11) 3 := by
  by_cases e : b ≤ t
  · exact wl_startB (m := 3) (by omega) (by omega) (by rw [q.2.2.1, if_pos e]) (wl_H_02 h) H
  · obtain ⟨c, k, F⟩ := wl_H_11 (pen := pen) (sp := sp) (a6 := a6) h
    exact wl_startA3 (by omega) (by rw [q.2.2.1, if_neg e]) q.2.2.2 (wl_H_01 h) F H
theorem wl_clear {post : St2 → Prop} (h : post (pen, sp, nI 0, 0, pc, pk, a1, a2, a3, a4, a5, a6, a7, a8, a9, a10, a11)) : wpX_clearText post (pen, sp, le, fr, pc, pk, a1, a2, a3, a4, a5, a6, a7, a8, a9, a10, a11) := h
/-! ===== the law, from its end ===== -/
theorem wl_499 {post : Int32 → St0 → Prop} {mc ms kc ks : Nat} {x9 z0 z1 : Int32} (hz : z1 = z0) (h8 : a8 7 = x9) (hp : post 1 ()) : wL_lawOf_499 post mc ms x9 z0 z1 kc ks pen sp le fr pc pk a1 a2 a3 a4 a5 a6 a7 a8 a9 a10 a11 :=
  br_t hz (wl_link 1 3 0 (by omega) (by omega) (by omega) (br_t h8 hp))
theorem wl_445 {post : Int32 → St0 → Prop} {mc ms kc ks : Nat} {x0 x1 z0 z1 : Int32} {u v b p j : Nat} (hu : u < 4) (hv : v < 4) (hb : b ≤ 99) (hp : p ≤ 99) (e0 : x0 &&& 3 = nI u) (e1 : x1 &&& 3 = nI v) (hD : wl_D u v (-1) b 1 a1 a2 a3 a4 a5) (h8 : a8 15 = nI 0) (h7 : a8 7 = nI j) (hz : z1 = z0) (hP : post 1 ()) : wL_lawOf_445 post mc ms x0 x1 (nI p) (nI j) (nI u) (nI v) (nI (min (p + p) b)) z0 z1 kc ks (nI p) sp le fr pc pk a1 a2 a3 a4 a5 a6 a7 a8 a9 a10 a11 := by
  refine br_t hz (wl_clear (wl_type 0 (by omega) (br_t rfl (wl_type 1 (by omega) (br_t rfl ?_)))))
  have t0 : upd (upd a7 0 (x1 &&& 3)) 1 (x0 &&& 3) 0 = nI v := by rw [pk_un (by omega), pk_us, e1]
  have t1 : upd (upd a7 0 (x1 &&& 3)) 1 (x0 &&& 3) 1 = nI u := by rw [pk_us, e0]
  by_cases e : v = u
  · refine wl_cost (wl_KB hu hv hb hp hD (by rw [t0, e]) (by rw [t1, e]) h8) (fun pc pk c9 c10 c11 q => br_t (by rw [e]) (wl_499 q.1 h7 hP))
  · refine wl_cost (wl_KC hu hv hp hD e t0 t1 h8) (fun pc pk c9 c10 c11 q => br_f (by rw [nI_eq (by omega) (by omega)]; exact fun z => e z.symm) (wl_499 (q.trans (nI_add p p).symm) h7 hP))
theorem wl_416 {post : Int32 → St0 → Prop} {mc ms kc ks : Nat} {x0 x1 z0 : Int32} {u v b p j : Nat} (hu : u < 4) (hv : v < 4) (hb : b ≤ 99) (hp : p ≤ 99) (e0 : x0 &&& 3 = nI u) (e1 : x1 &&& 3 = nI v) (hD : wl_D u v (-1) b 1 a1 a2 a3 a4 a5) (h70 : a7 0 = nI u) (h71 : a7 1 = nI v) (h8 : a8 15 = nI 0) (h7 : a8 7 = nI j) (hz : z0 = nI (min (p + p) b)) (hP : post 1 ()) : wL_lawOf_416 post mc ms x0 x1 (nI p) (nI b) (nI j) (nI u) (nI v) (nI (p + p)) z0 kc ks (nI p) sp (nI 2) 0 pc pk a1 a2 a3 a4 a5 a6 a7 a8 a9 a10 a11 := by
  subst hz
  unfold wL_lawOf_416
  refine wl_cost (wl_KB hu hv hb hp hD h70 h71 h8) (fun pc pk c9 c10 c11 q => br_t q.1 (wl_ways ?_))
  exact pk_eq (p + p) b (fun e => wl_445 hu hv hb hp e0 e1 hD h8 h7 (by rw [q.2.1, if_pos e]; rfl) hP) (fun e => wl_445 hu hv hb hp e0 e1 hD h8 h7 (by rw [q.2.1, if_neg e]; rfl) hP)
theorem wl_339 {post : Int32 → St0 → Prop} {mc ms kc ks : Nat} {x0 x1 z0 z1 : Int32} {u v a b p j t : Nat} (h : wl_H u v a b p j t a1 a2 a3 a4 a5 a7 a8) (q : wl_Q t b 1 a9 a10 a11) (e0 : x0 &&& 3 = nI u) (e1 : x1 &&& 3 = nI v) (hz : z1 = z0) (hP : post 1 ()) : wL_lawOf_339 post mc ms x0 x1 (nI p) (nI b) (nI j) (nI u) (nI v) z0 z1 kc ks (nI p) (nI 0) (nI 2) 1 pc pk a1 a2 a3 a4 a5 a6 a7 a8 a9 a10 a11 := by
  refine br_t hz (wl_start_3 h q (fun pc pk => br_t rfl (wl_start_m (br_t rfl ?_))))
  obtain ⟨hu, hv, ha, hb, hp, hj, ht, hD, h70, h71, h85, h87, h815⟩ := h
  have hs : upd a6 0 (nI u &&& 3) 0 = nI u := by
    rw [pk_us, pk_andN (by omega) 2 rfl, Nat.mod_eq_of_lt (by omega)]
  refine wl_spell 0 (by omega) (br_t rfl (wl_begin hu hD hs (br_t rfl (wl_forget hu ha hD hs (fun b3 b5 hD' => br_t rfl (nm_r (nI_add p p) ?_))))))
  exact pk_le b (p + p) (fun z => wl_416 hu hv hb hp e0 e1 hD' h70 h71 h815 h87 (by rw [Nat.min_eq_right z]) hP) (fun z => wl_416 hu hv hb hp e0 e1 hD' h70 h71 h815 h87 (by rw [Nat.min_eq_left (by omega)]) hP)
theorem wl_316 {post : Int32 → St0 → Prop} {mc ms kc ks : Nat} {x0 x1 z0 z1 : Int32} {u v a b p j t : Nat} (h : wl_H u v a b p j t a1 a2 a3 a4 a5 a7 a8) (hT : t < 2 ^ 31) (q : wl_Q t b 1 a9 a10 a11) (e0 : x0 &&& 3 = nI u) (e1 : x1 &&& 3 = nI v) (hz : z1 = z0) (hP : post 1 ()) : wL_lawOf_316 post mc ms x0 x1 (nI p) (nI b) (nI j) (nI u) (nI v) (nI t) z0 z1 kc ks (nI p) (nI 0) (nI 2) 1 pc pk a1 a2 a3 a4 a5 a6 a7 a8 a9 a10 a11 := by
  have hb := h.2.2.2.1
  exact br_t hz (wl_start_2 h q (fun pc pk => pk_lt t b (fun z => wl_339 h q e0 e1 (by rw [if_neg (by omega)]; rfl) hP) (fun z => wl_339 h q e0 e1 (by rw [if_pos z]) hP)))
theorem wl_284 {post : Int32 → St0 → Prop} {mc ms kc ks : Nat} {x0 x1 z0 z1 : Int32} {u v a b p j t : Nat} (h : wl_H u v a b p j t a1 a2 a3 a4 a5 a7 a8) (hT : t < 2 ^ 31) (q : wl_Q t b 1 a9 a10 a11) (e0 : x0 &&& 3 = nI u) (e1 : x1 &&& 3 = nI v) (hz : z1 = z0) (hP : post 1 ()) : wL_lawOf_284 post mc ms x0 x1 (nI p) (nI b) (nI j) (nI u) (nI v) (nI t) z0 z1 kc ks (nI p) (nI 0) (nI 2) 1 pc pk a1 a2 a3 a4 a5 a6 a7 a8 a9 a10 a11 := by
  have hb := h.2.2.2.1
  exact br_t hz (wl_start0 (br_t rfl (wl_start_1 h q (fun pc pk => pk_lt t b (fun z => wl_316 h hT q e0 e1 (by rw [if_neg (by omega)]; rfl) hP) (fun z => wl_316 h hT q e0 e1 (by rw [if_pos z]; rfl) hP)))))
theorem wl_255 {post : Int32 → St0 → Prop} {mc ms kc ks : Nat} {x0 x1 z0 : Int32} {u v a b p j t : Nat} (h : wl_H u v a b p j t a1 a2 a3 a4 a5 a7 a8) (hT : t < 2 ^ 31) (e0 : x0 &&& 3 = nI u) (e1 : x1 &&& 3 = nI v) (hz : z0 = nI (min t b)) (hP : post 1 ()) : wL_lawOf_255 post mc ms x0 x1 (nI p) (nI b) (nI j) (nI u) (nI v) (nI t) z0 kc ks (nI p) (nI 0) (nI 2) 0 pc pk a1 a2 a3 a4 a5 a6 a7 a8 a9 a10 a11 := by
  subst hz
  have hb := h.2.2.2.1
  unfold wL_lawOf_255
  refine wl_cost (wl_KA h) (fun pc pk c9 c10 c11 q => br_t q.1 (wl_ways ?_))
  exact pk_eq t b (fun e => wl_284 h hT q e0 e1 (by rw [q.2.1, if_pos e]; rfl) hP) (fun e => wl_284 h hT q e0 e1 (by rw [q.2.1, if_neg e]; rfl) hP)
theorem wl_239 {post : Int32 → St0 → Prop} {mc ms kc ks : Nat} {x0 x1 z0 : Int32} {u v a b p j t : Nat} (h : wl_H u v a b p j t a1 a2 a3 a4 a5 a7 a8) (hT : t < 2 ^ 31) (e0 : x0 &&& 3 = nI u) (e1 : x1 &&& 3 = nI v) (hz : z0 = nI t) (hP : post 1 ()) : wL_lawOf_239 post mc ms x0 x1 (nI p) (nI b) (nI j) (nI u) (nI v) z0 kc ks (nI p) (nI 0) (nI 2) 0 pc pk a1 a2 a3 a4 a5 a6 a7 a8 a9 a10 a11 := by
  subst hz
  have hb := h.2.2.2.1
  exact pk_le b t (fun z => wl_255 h hT e0 e1 (by rw [Nat.min_eq_right z]) hP) (fun z => wl_255 h hT e0 e1 (by rw [Nat.min_eq_left (by omega)]) hP)
end
theorem wl_costL {post : Int32 → Prop} {x : Int32} (h : ∀ c, c ≤ 99 → post (nI c)) : wpL_cost post () x := by
  obtain ⟨m, hm, e⟩ := pk_andE x (m := 255) 8 rfl
  refine ⟨by decide, ?_⟩
  rw [e, show (100 : Int32) = nI 100 from rfl, pk_rem (by omega) (by omega) (by omega)]
  exact h _ (by omega)
theorem wl_24 {post : Int32 → St0 → Prop} {x0 x1 x2 x3 x4 x5 : Int32} {u v p : Nat} (hu : u < 4) (hv : v < 4) (hp : wl_P x5 p) (e0 : x0 &&& 3 = nI u) (e1 : x1 &&& 3 = nI v) (hP : post 1 ()) : wL_lawOf_24 post 100 5000 x0 x1 x2 x3 x4 x5 (nI p) 0 0 := by
  have hp1 := hp.2.1
  unfold wL_lawOf_24
  refine wl_costL (fun a ha => wl_costL (fun b hb => wl_costL (fun j hj => nm_r e0 (nm_r e1 ⟨by omega, by omega, 50, 3000, by omega, by omega, ?_⟩))))
  refine wl_init hp (by omega) (by omega) (fun a2 a3 h20 h2 h3 => ?_)
  refine wl_spell 0 (by omega) (br_t rfl ?_)
  refine wl_learn1 hu ha (fun _ _ => rfl) h2 (fun _ _ => rfl) (by rw [pk_us, e0]) (fun b1 b2 b3 b4 b5 hD1 => br_t rfl ?_)
  refine wl_spell 0 (by omega) (br_t rfl (wl_spell 1 (by omega) (br_t rfl ?_)))
  refine wl_learn2 hu hv hb hD1 (by rw [pk_un (by omega), pk_us, e0]) (by rw [pk_us, e1]) (fun d1 d2 d3 d4 d5 hD => br_t rfl ?_)
  refine wl_link 1 3 j (by omega) (by omega) hj (br_t rfl (wl_link 3 1 99 (by omega) (by omega) (by omega) (br_t rfl ?_)))
  refine wl_cost wl_K0 (fun pc pk c9 c10 c11 q => br_t q.1 (wl_ways (br_t q.2 ?_)))
  refine wl_type 0 (by omega) (br_t rfl ?_)
  refine wl_cost (wl_K1 (by omega) ha (wl_Fu hu ha hD (by rw [pk_us, e0]) (by omega) (by omega))) (fun pc pk c9 c10 c11 q => br_t q.1 (wl_ways (br_t q.2.1 (wl_start1 (by omega) (by omega) q.2.2 (wl_Fu hu ha hD (by rw [pk_us, e0]) (by omega) (by omega)) (fun pc pk => br_t rfl ?_)))))
  refine wl_type 1 (by omega) (br_t rfl ?_)
  have hH : ∀ t, t = (if u = v then a + a else a + j + p) → wl_H u v a b p j t d1 d2 d3 d4 d5 (upd (upd (fun _ => 0) 0 (x0 &&& 3)) 1 (x1 &&& 3)) (upd (upd (fun _ => 0) (4 * 1 + 3) (nI j)) (4 * 3 + 1) (nI 99)) := fun t ht => ⟨hu, hv, ha, hb, hp1, hj, ht, hD, by rw [pk_un (by omega), pk_us, e0], by rw [pk_us, e1], rfl, rfl, rfl⟩
  exact pk_eq u v (fun e => wl_239 (hH (a + a) (by rw [if_pos e])) (by omega) e0 e1 (nI_add a a) hP) (fun e => wl_239 (hH (a + j + p) (by rw [if_neg e])) (by omega) e0 e1 (by rw [nI_add, nI_add]) hP)
theorem wl_lawOf {post : Int32 → St0 → Prop} {x0 x1 x2 x3 x4 x5 : Int32} (hP : post 1 ()) : wpL_lawOf post 100 5000 () x0 x1 x2 x3 x4 x5 := by
  obtain ⟨u, hu, e0⟩ := pk_andE x0 (m := 3) 2 rfl
  obtain ⟨v, hv, e1⟩ := pk_andE x1 (m := 3) 2 rfl
  refine br_c (fun h1 => br_c (fun h2 => ?_) (fun h2 => wl_24 (p := 99) hu hv ⟨by omega, by omega, Or.inr (Or.inl ⟨h1, h2, rfl⟩)⟩ e0 e1 hP)) (fun h1 => wl_24 (p := 1) hu hv ⟨by omega, by omega, Or.inr (Or.inr ⟨h1, rfl⟩)⟩ e0 e1 hP)
  have h0 : ¬ x5 < 0 := fun z => absurd (Int32.lt_of_le_of_lt h1 z) (by decide)
  obtain ⟨p, hp, e⟩ := nI_of2 (n := 99) (by decide) h0 h2
  have hp1 : 1 ≤ p := by
    rw [e] at h1
    exact (nI_leI (a := 1) (by omega) (by omega)).mp h1
  have := wl_24 (post := post) (x0 := x0) (x1 := x1) (x2 := x2) (x3 := x3) (x4 := x4) (x5 := x5) (p := p) hu hv ⟨hp1, hp, Or.inl ⟨h1, h2, e⟩⟩ e0 e1 hP
  rw [← e] at this
  exact this
theorem wl_cell {post : Int32 → Prop} {L : Nat} {xs : Nat → Int32} {x : Int32} (k : Nat) (hL : L ≤ 6) (hk : k < 6) (h : ∀ y, post y) (hx : x = nI k := by rfl) : wpL_cellAt post L xs () x :=
  pk_le L k (fun _ => h _) (fun z => ⟨pk_in k L z hx, h _⟩) rfl hx
theorem i_vc (xs : Nat → Int32) (L : Nat) (hL : L ≤ 6) : wpL_law (fun r => r = 1) L xs :=
  wl_cell 0 hL (by omega) (fun _ => wl_cell 1 hL (by omega) (fun _ => wl_cell 2 hL (by omega) (fun _ => wl_cell 3 hL (by omega) (fun _ => wl_cell 4 hL (by omega) (fun _ => wl_cell 5 hL (by omega) (fun _ => ⟨100, 5000, by omega, by omega, wl_lawOf rfl⟩))))))
end
