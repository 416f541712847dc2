section
/-- the array of zeros -/
abbrev cv_Z : Nat → Int32 := fun _ => 0
theorem cv_uZ (k : Nat) : upd cv_Z k 0 = cv_Z := by
  funext j
  show (if j = k then (0 : Int32) else 0) = 0
  split <;> rfl
theorem cv_e0 : (0 : Int32).toNatClampNeg = 0 := by decide
theorem cv_a00 : (0 : Int32) + 0 = 0 := by decide
theorem cv_s00 : (0 : Int32) - 0 = 0 := by decide
theorem cv_m00 : (0 : Int32) * 0 = 0 := by decide
theorem cv_01 : (0 : Int32) + 1 = 1 := by decide
theorem cv_b : ∀ c, c < 128 → (nI c).toInt8.toInt32 = nI c := by decide +kernel
theorem cv_cl {u : Nat} (h : u < 64) : (nI u).toNatClampNeg = u := nI_clamp (by omega)
theorem cv_sl (u i : Nat) : (16 : Int32) * nI u + nI i = nI (16 * u + i) := by
  show nI 16 * nI u + nI i = _
  rw [pk_mul, nI_add]
/-- the unit of an opcode below 10 -/
def cv_un (o : Nat) : Nat := if o = 2 ∨ o = 5 then 1 else if o ≤ 4 then 0 else if o ≤ 8 then 2 else 3
theorem cv_un4 (o : Nat) : cv_un o < 4 := by
  unfold cv_un
  split
  · omega
  · split
    · omega
    · split <;> omega
theorem cv_un2 {o : Nat} (h : cv_un o ≠ 2) (ho : o ≤ 9) : o ≤ 5 ∨ o = 9 := by
  unfold cv_un at h
  split at h
  · omega
  · split at h
    · omega
    · split at h
      · omega
      · omega
/-- the instruction at 0 (a vector instruction) -/
def cv_K (o xx yy zz : Nat) (a4 a5 a6 a7 : Nat → Int32) : Prop :=
  o ≤ 9 ∧ xx ≤ 3 ∧ yy ≤ 3 ∧ a4 0 = nI o ∧ a5 0 = nI xx ∧ a6 0 = nI yy ∧ (o ≤ 5 → zz ≤ 3 ∧ a7 0 = nI zz)
/-- what the units hold: only the instruction's own unit works; counters in range; cells in range -/
def cv_D (o : Nat) (a8 a10 a12 a13 a15 : Nat → Int32) : Prop :=
  (∀ u, u < 4 → a8 u = 0 ∨ u = cv_un o) ∧ (∀ u, ∃ c b f : Nat, c ≤ 16 ∧ b ≤ 16 ∧ f ≤ b ∧ a10 u = nI c ∧ a12 u = nI b ∧ a13 u = nI f) ∧ (∀ j, ∃ c : Nat, c < 64 ∧ a15 j = nI c)
theorem cv_D8 {o u : Nat} {a8 a10 a12 a13 a15 : Nat → Int32} (h : cv_D o a8 a10 a12 a13 a15) : cv_D o (upd a8 u 0) a10 a12 a13 a15 := by
  refine ⟨fun v hv => ?_, h.2⟩
  by_cases e : v = u
  · rw [e]
    exact Or.inl pk_us
  · rw [pk_un e]
    exact h.1 v hv
theorem cv_D12 {o u c b f : Nat} {a8 a10 a12 a13 a15 : Nat → Int32} (h : cv_D o a8 a10 a12 a13 a15) (hc : c ≤ 16) (hb : b < c) (hf : f ≤ b) (ec : a10 u = nI c) (ef : a13 u = nI f) : cv_D o a8 a10 (upd a12 u (nI (b + 1))) a13 a15 := by
  refine ⟨h.1, fun v => ?_, h.2.2⟩
  by_cases e : v = u
  · rw [e]
    exact ⟨c, b + 1, f, hc, by omega, by omega, ec, pk_us, ef⟩
  · rw [pk_un e]
    exact h.2.1 v
theorem cv_D13 {o u c b f : Nat} {a8 a10 a12 a13 a15 : Nat → Int32} (h : cv_D o a8 a10 a12 a13 a15) (hc : c ≤ 16) (hb : b ≤ 16) (hf : f < b) (ec : a10 u = nI c) (eb : a12 u = nI b) : cv_D o a8 a10 a12 (upd a13 u (nI (f + 1))) a15 := by
  refine ⟨h.1, fun v => ?_, h.2.2⟩
  by_cases e : v = u
  · rw [e]
    exact ⟨c, b, f + 1, hc, hb, by omega, ec, eb, pk_us⟩
  · rw [pk_un e]
    exact h.2.1 v
theorem cv_D15 {o k c : Nat} {a8 a10 a12 a13 a15 : Nat → Int32} (h : cv_D o a8 a10 a12 a13 a15) (hc : c < 64) : cv_D o a8 a10 a12 a13 (upd a15 k (nI c)) := by
  refine ⟨h.1, h.2.1, fun v => ?_⟩
  by_cases e : v = k
  · rw [e]
    exact ⟨c, hc, pk_us⟩
  · rw [pk_un e]
    exact h.2.2 v
theorem cv_p {post : Int32 → St2 → Prop} {r : Int32} {s : St2} (e : r = 0) (h : post 0 s) : post r s := by
  rw [e]
  exact h
end
section
section
variable {lc o xx yy zz u i : Nat} {dl ln nx tm : Int32} {a1 a2 a3 a4 a5 a6 a7 a8 a9 a10 a11 a12 a13 a14 a15 a16 : Nat → Int32}
theorem cv_mayBegin {post : Int32 → Prop} {p1 : Int32} (hu : u < 4) (hp : post 1) : wpX_mayBegin post (nI lc, dl, ln, 1, nx, tm, 0, cv_Z, cv_Z, cv_Z, a4, a5, a6, a7, a8, cv_Z, a10, cv_Z, a12, a13, cv_Z, a15, a16) (nI u) p1 :=
  ⟨pk_in u 4 hu, nm_r (e' := 0) rfl
    (pk_loop (σ := Unit) (fun n i _ => wX_mayBegin_10 post p1 0 (nI lc) dl ln 1 nx tm 0 cv_Z cv_Z cv_Z a4 a5 a6 a7 a8 cv_Z a10 cv_Z a12 a13 cv_Z a15 a16 n (nI i)) (fun _ _ => True) 4 0 () (by omega) trivial
      (fun n _ _ => pk_le 4 4 (fun _ => hp) (fun z => absurd z (by omega)))
      (fun n i _ hi _ hw => pk_le 4 i (fun z => absurd z (by omega)) (fun _ => ⟨pk_in i 4 hi, br_c (fun _ => nm_r (nI_1 i) (hw () trivial)) (fun _ => ⟨pk_in i 4 hi, br_t (Int32.le_refl 0) (nm_r (nI_1 i) (hw () trivial))⟩)⟩)))⟩
theorem cv_fetch {post : Int32 → St2 → Prop} (k : cv_K o xx yy zz a4 a5 a6 a7) (hu : u < 4) (hi : i < 16) (hd : cv_D o a8 a10 a12 a13 a15)
    (H : ∀ b15, cv_D o a8 a10 a12 a13 b15 → post 0 (nI lc, dl, ln, 1, nx, tm, 0, cv_Z, cv_Z, cv_Z, a4, a5, a6, a7, a8, cv_Z, a10, cv_Z, a12, a13, cv_Z, b15, a16)) : wpX_fetch post (nI lc, dl, ln, 1, nx, tm, 0, cv_Z, cv_Z, cv_Z, a4, a5, a6, a7, a8, cv_Z, a10, cv_Z, a12, a13, cv_Z, a15, a16) (nI u) (nI i) := by
  obtain ⟨k1, k2, k3, k4, k5, k6, k7⟩ := k
  refine ⟨pk_in u 4 hu, nm_r (e' := 0) rfl ?_⟩
  rw [cv_e0, k4, k5, k6]
  refine ⟨pk_in 0 16 (by omega), pk_eq o 8 (fun _ => ⟨pk_in 0 16 (by omega), pk_in (16 * yy + i) 64 (by omega) (cv_sl yy i), nm_r (e' := 0) (show (0 : Int32) &&& 63 = 0 by decide) ⟨pk_in 0 64 (by omega), H a15 hd⟩⟩) (fun _ => ?_)⟩
  refine ⟨pk_in u 4 hu, pk_in 0 16 (by omega), ?_⟩
  obtain ⟨c, hc, ec⟩ := pk_andE (cv_Z (nI u).toNatClampNeg + nI i * a7 0) (m := 63) 6 (by decide)
  refine nm_r ec ⟨pk_in 0 16 (by omega), pk_eq o 6 (fun _ => ⟨pk_in c 64 hc, H a15 hd⟩) (fun _ => ⟨pk_in (16 * u + i) 64 (by omega) (cv_sl u i), ?_⟩)⟩
  refine nm_r (e' := upd a15 (16 * u + i) (nI c)) ?_ ⟨pk_in 0 16 (by omega), pk_in (16 * xx + i) 64 (by omega) (cv_sl xx i), H _ (cv_D15 hd hc)⟩
  have hc' : c < 64 := hc
  rw [cv_b c (by omega), cv_sl, cv_cl (by omega)]
theorem cv_compute {post : Int32 → St2 → Prop} (k : cv_K o xx yy zz a4 a5 a6 a7) (hu : u = cv_un o) (hi : i < 16) (hd : cv_D o a8 a10 a12 a13 a15)
    (H : ∀ b15, cv_D o a8 a10 a12 a13 b15 → post 0 (nI lc, dl, ln, 1, nx, tm, 0, cv_Z, cv_Z, cv_Z, a4, a5, a6, a7, a8, cv_Z, a10, cv_Z, a12, a13, cv_Z, b15, a16)) : wpX_compute post (nI lc, dl, ln, 1, nx, tm, 0, cv_Z, cv_Z, cv_Z, a4, a5, a6, a7, a8, cv_Z, a10, cv_Z, a12, a13, cv_Z, a15, a16) (nI u) (nI i) := by
  have hu4 : u < 4 := by rw [hu]; exact cv_un4 o
  have kk := k
  obtain ⟨k1, k2, k3, k4, k5, k6, k7⟩ := k
  refine ⟨pk_in u 4 hu4, nm_r (e' := 0) rfl ⟨pk_in 0 16 (by omega), nm_r (e' := nI o) (by rw [cv_e0]; exact k4) ?_⟩⟩
  rw [cv_e0, k6]
  refine pk_eq u 2 (fun _ => cv_fetch kk hu4 hi hd H) (fun h2 => ?_)
  have ho : o ≤ 5 ∨ o = 9 := cv_un2 (by rw [← hu]; exact h2) k1
  refine ⟨pk_in 0 16 (by omega), pk_in (16 * yy + i) 64 (by omega) (cv_sl yy i), nm_r (e' := 0) rfl ?_⟩
  refine pk_eq o 4 (fun _ => ⟨pk_in u 4 hu4, cv_p cv_a00 (H _ hd)⟩) (fun _ => pk_eq o 5 (fun _ => ⟨pk_in u 4 hu4, cv_p cv_m00 (H _ hd)⟩) (fun _ => pk_eq o 9 (fun _ => H _ hd) (fun h9 => ?_)))
  obtain ⟨k8, k9⟩ := k7 (by omega)
  rw [k9]
  refine ⟨pk_in 0 16 (by omega), pk_in (16 * zz + i) 64 (by omega) (cv_sl zz i), nm_r (e' := 0) rfl ?_⟩
  exact pk_eq o 0 (fun _ => cv_p cv_a00 (H _ hd)) (fun _ => pk_eq o 1 (fun _ => cv_p cv_s00 (H _ hd)) (fun _ => pk_eq o 2 (fun _ => cv_p cv_m00 (H _ hd)) (fun _ => br_c (fun _ => H _ hd) (fun _ => H _ hd))))
theorem cv_bE {post : St2 → Prop} (k : cv_K o xx yy zz a4 a5 a6 a7) (hu : u = cv_un o) (hlc : lc ≤ 4) (hd : cv_D o a8 a10 a12 a13 a15)
    (H : ∀ b12 b15 b16, cv_D o a8 a10 b12 a13 b15 → post (nI lc, dl, ln, 1, nx, tm, 0, cv_Z, cv_Z, cv_Z, a4, a5, a6, a7, a8, cv_Z, a10, cv_Z, b12, a13, cv_Z, b15, b16)) : wpX_beginElements post (nI lc, dl, ln, 1, nx, tm, 0, cv_Z, cv_Z, cv_Z, a4, a5, a6, a7, a8, cv_Z, a10, cv_Z, a12, a13, cv_Z, a15, a16) (nI u) := by
  have hu4 : u < 4 := by rw [hu]; exact cv_un4 o
  refine pk_loop (fun n i (s : (Nat → Int32) × (Nat → Int32) × (Nat → Int32)) => wX_beginElements_2 post (nI u) n (nI i) (nI lc) dl ln 1 nx tm 0 cv_Z cv_Z cv_Z a4 a5 a6 a7 a8 cv_Z a10 cv_Z s.1 a13 cv_Z s.2.1 s.2.2) (fun _ s => cv_D o a8 a10 s.1 a13 s.2.1) lc 0 (a12, a15, a16) (by omega) hd ?_ ?_
  · intro n s h
    exact pk_le lc lc (fun _ => H _ _ _ h) (fun z => absurd z (by omega))
  · intro n i s hi h hw
    obtain ⟨b12, b15, b16⟩ := s
    have h' : cv_D o a8 a10 b12 a13 b15 := h
    obtain ⟨c, b, f, hc, hb, hf, ec, eb, ef⟩ := h'.2.1 u
    refine pk_le lc i (fun z => absurd z (by omega)) (fun _ => ⟨pk_in u 4 hu4, nm_r (e' := nI b) (by rw [cv_cl (by omega)]; exact eb) ⟨pk_in u 4 hu4, ?_⟩⟩)
    rw [cv_cl (show u < 64 by omega), ec]
    refine pk_le c b (fun _ => H _ _ _ h') (fun hbc => cv_mayBegin hu4 (br_f (by decide) (nm_r (cv_sl u b) (cv_compute k hu (by omega) h' (fun e15 he => ?_)))))
    refine ⟨pk_in (16 * u + b) 64 (by omega), nm_r (cv_uZ _) ⟨pk_in (16 * u + b) 64 (by omega), nm_e ⟨pk_in u 4 hu4, pk_in u 4 hu4, nm_r (e' := upd b12 u (nI (b + 1))) ?_ (nm_r (nI_1 i) (hw (_, _, _) (cv_D12 he hc hbc hf ec ef)))⟩⟩⟩
    show upd b12 u ((b12 u + 1).toInt8.toInt32) = _
    rw [eb, nI_1, cv_b (b + 1) (by omega)]
theorem cv_bI {post : St2 → Prop} (k : cv_K o xx yy zz a4 a5 a6 a7) (hlc : lc ≤ 4) (hd : cv_D o a8 a10 a12 a13 a15)
    (H : ∀ b12 b15 b16, cv_D o a8 a10 b12 a13 b15 → post (nI lc, dl, ln, 1, nx, tm, 0, cv_Z, cv_Z, cv_Z, a4, a5, a6, a7, a8, cv_Z, a10, cv_Z, b12, a13, cv_Z, b15, b16)) : wpX_beginInOrder post (nI lc, dl, ln, 1, nx, tm, 0, cv_Z, cv_Z, cv_Z, a4, a5, a6, a7, a8, cv_Z, a10, cv_Z, a12, a13, cv_Z, a15, a16) := by
  refine pk_loop (fun n i (s : Int32 × (Nat → Int32) × (Nat → Int32) × (Nat → Int32)) => wX_beginInOrder_4 post n s.1 (nI i) (nI lc) dl ln 1 nx tm 0 cv_Z cv_Z cv_Z a4 a5 a6 a7 a8 cv_Z a10 cv_Z s.2.1 a13 cv_Z s.2.2.1 s.2.2.2) (fun _ s => cv_D o a8 a10 s.2.1 a13 s.2.2.1) 4 0 (-1, a12, a15, a16) (by omega) hd ?_ ?_
  · intro n s h
    exact pk_le 4 4 (fun _ => H _ _ _ h) (fun z => absurd z (by omega))
  · intro n i s hi h hw
    obtain ⟨x1, b12, b15, b16⟩ := s
    have h' : cv_D o a8 a10 b12 a13 b15 := h
    refine pk_le 4 i (fun z => absurd z (by omega)) (fun _ => ?_)
    refine pk_loop (fun m v (x3 : Int32) => wX_beginInOrder_14 post (wX_beginInOrder_4 post n) x1 (nI i) (nI lc) dl ln 1 nx tm 0 cv_Z cv_Z cv_Z a4 a5 a6 a7 a8 cv_Z a10 cv_Z b12 a13 cv_Z b15 b16 m x3 (nI v)) (fun _ x3 => x3 = -1 ∨ x3 = nI (cv_un o)) 4 0 (-1) (by omega) (Or.inl rfl) ?_ ?_
    · intro m x3 hx
      refine pk_le 4 4 (fun _ => ?_) (fun z => absurd z (by omega))
      rcases hx with rfl | rfl
      · exact br_f (by decide) (H _ _ _ h')
      · exact br_t (nI_pos' (by have := cv_un4 o; omega)) ⟨pk_in (cv_un o) 4 (cv_un4 o), nm_e (cv_bE k rfl hlc h' (fun c12 c15 c16 hc => nm_r (nI_1 i) (hw (_, _, _, _) hc)))⟩
    · intro m v x3 hv hx hw2
      refine pk_le 4 v (fun z => absurd z (by omega)) (fun _ => ⟨pk_in v 4 hv, ?_⟩)
      rw [cv_cl (show v < 64 by omega)]
      refine br_c (fun _ => nm_r (nI_1 v) (hw2 _ hx)) (fun hn => ?_)
      have hv' : v = cv_un o := (h'.1 v hv).resolve_left hn
      refine ⟨pk_in v 4 hv, br_c (fun _ => br_c (fun _ => nm_r (nI_1 v) (hw2 _ (Or.inr (by rw [hv'])))) (fun hneg => ⟨pk_in v 4 hv, ?_, br_c (fun _ => nm_r (nI_1 v) (hw2 _ hx)) (fun _ => nm_r (nI_1 v) (hw2 _ (Or.inr (by rw [hv']))))⟩)) (fun _ => nm_r (nI_1 v) (hw2 _ hx))⟩
      rcases hx with rfl | rfl
      · exact absurd (by decide) hneg
      · exact pk_in (cv_un o) 4 (cv_un4 o)
end
end
section
section
variable {lc o xx yy zz u i : Nat} {dl ln nx tm : Int32} {a1 a2 a3 a4 a5 a6 a7 a8 a9 a10 a11 a12 a13 a14 a15 a16 : Nat → Int32}
theorem cv_del {post : St2 → Prop} (k : cv_K o xx yy zz a4 a5 a6 a7) (hu : u < 4) (hi : i < 16) (hd : cv_D o a8 a10 a12 a13 a15)
    (H : post (nI lc, dl, ln, 1, nx, tm, 0, cv_Z, cv_Z, cv_Z, a4, a5, a6, a7, a8, cv_Z, a10, cv_Z, a12, a13, cv_Z, a15, a16)) : wpX_deliver post (nI lc, dl, ln, 1, nx, tm, 0, cv_Z, cv_Z, cv_Z, a4, a5, a6, a7, a8, cv_Z, a10, cv_Z, a12, a13, cv_Z, a15, a16) (nI u) (nI i) := by
  obtain ⟨k1, k2, k3, k4, k5, k6, k7⟩ := k
  refine ⟨pk_in u 4 hu, nm_r (e' := 0) rfl ⟨pk_in (16 * u + i) 64 (by omega) (cv_sl u i), nm_r (e' := 0) rfl (pk_eq u 3 (fun _ => nm_r (e' := 0) cv_a00 H) (fun _ => ?_))⟩⟩
  obtain ⟨c, hc, ec⟩ := hd.2.2 (16 * u + i)
  rw [cv_e0, k4, k5, cv_sl, cv_cl (show 16 * u + i < 64 by omega), ec]
  exact ⟨pk_in 0 16 (by omega), pk_eq o 7 (fun _ => ⟨pk_in (16 * u + i) 64 (by omega), pk_in c 64 hc, nm_r (cv_uZ _) H⟩) (fun _ => ⟨pk_in 0 16 (by omega), pk_in (16 * xx + i) 64 (by omega) (cv_sl xx i), nm_r (cv_uZ _) H⟩)⟩
theorem cv_f81 {post : St2 → Prop} (k : cv_K o xx yy zz a4 a5 a6 a7) (hu : u < 4) (hd : cv_D o a8 a10 a12 a13 a15)
    (H : ∀ b8, cv_D o b8 a10 a12 a13 a15 → post (nI lc, dl, ln, 1, nx, tm, 0, cv_Z, cv_Z, cv_Z, a4, a5, a6, a7, b8, cv_Z, a10, cv_Z, a12, a13, cv_Z, a15, a16)) : wX_finishElements_81 post (nI u) (nI lc) dl ln 1 nx tm 0 cv_Z cv_Z cv_Z a4 a5 a6 a7 a8 cv_Z a10 cv_Z a12 a13 cv_Z a15 a16 := by
  obtain ⟨k1, k2, k3, k4, k5, k6, k7⟩ := k
  exact ⟨pk_in u 4 hu, pk_in u 4 hu, br_c (fun _ => pk_eq u 3 (fun _ => ⟨pk_in u 4 hu, pk_in 0 16 (by omega), pk_in xx 4 (by omega) (by show a5 (0 : Int32).toNatClampNeg = nI xx; rw [cv_e0]; exact k5), nm_r (cv_uZ _) ⟨pk_in u 4 hu, nm_e (H _ (cv_D8 hd))⟩⟩) (fun _ => ⟨pk_in u 4 hu, nm_e (H _ (cv_D8 hd))⟩)) (fun _ => H _ hd)⟩
theorem cv_fE {post : St2 → Prop} (k : cv_K o xx yy zz a4 a5 a6 a7) (hlc : lc ≤ 4) (hu : u < 4) (hd : cv_D o a8 a10 a12 a13 a15)
    (H : ∀ b8 b13, cv_D o b8 a10 a12 b13 a15 → post (nI lc, dl, ln, 1, nx, tm, 0, cv_Z, cv_Z, cv_Z, a4, a5, a6, a7, b8, cv_Z, a10, cv_Z, a12, b13, cv_Z, a15, a16)) : wpX_finishElements post (nI lc, dl, ln, 1, nx, tm, 0, cv_Z, cv_Z, cv_Z, a4, a5, a6, a7, a8, cv_Z, a10, cv_Z, a12, a13, cv_Z, a15, a16) (nI u) := by
  refine ⟨pk_in u 4 hu, br_c (fun _ => H _ _ hd) (fun _ => ?_)⟩
  refine pk_loop (fun n i (s : Nat → Int32) => wX_finishElements_12 post (nI u) n (nI i) (nI lc) dl ln 1 nx tm 0 cv_Z cv_Z cv_Z a4 a5 a6 a7 a8 cv_Z a10 cv_Z a12 s cv_Z a15 a16) (fun _ s => cv_D o a8 a10 a12 s a15) lc 0 a13 (by omega) hd ?_ ?_
  · intro n s h
    exact pk_le lc lc (fun _ => cv_f81 k hu h (fun b8 hb => H _ _ hb)) (fun z => absurd z (by omega))
  · intro n i s hi h hw
    obtain ⟨c, b, f, hc, hb, hf, ec, eb, ef⟩ := h.2.1 u
    refine pk_le lc i (fun z => absurd z (by omega)) (fun _ => ⟨pk_in u 4 hu, nm_r (e' := nI f) (by rw [cv_cl (by omega)]; exact ef) ⟨pk_in u 4 hu, ?_⟩⟩)
    rw [cv_cl (show u < 64 by omega), eb]
    refine pk_le b f (fun _ => cv_f81 k hu h (fun b8 hb => H _ _ hb)) (fun hfb => ⟨pk_in (16 * u + f) 64 (by omega) (cv_sl u f), br_c (fun _ => cv_del k hu (by omega) h ⟨pk_in u 4 hu, pk_in u 4 hu, nm_r (e' := upd s u (nI (f + 1))) ?_ (nm_r (nI_1 i) (hw _ (cv_D13 h hc hb hfb ec eb)))⟩) (fun _ => cv_f81 k hu h (fun b8 hb => H _ _ hb))⟩)
    rw [ef, nI_1, cv_b (f + 1) (by omega)]
end
end
section
section
variable {lc o xx yy zz u i : Nat} {dl ln nx tm : Int32} {a1 a2 a3 a4 a5 a6 a7 a8 a9 a10 a11 a12 a13 a14 a15 a16 : Nat → Int32}
theorem cv_is1 {post : St2 → Prop} (H : post (nI lc, dl, ln, 1, 1, tm, 0, cv_Z, cv_Z, cv_Z, a4, a5, a6, a7, a8, cv_Z, a10, cv_Z, a12, a13, cv_Z, a15, a16)) : wpX_issue post (nI lc, dl, ln, 1, 1, tm, 0, cv_Z, cv_Z, cv_Z, a4, a5, a6, a7, a8, cv_Z, a10, cv_Z, a12, a13, cv_Z, a15, a16) := br_f (by decide) H
theorem cv_29 {post : Int32 → St2 → Prop} {J : Int32 → Int32 → Int32 → Int32 → Int32 → Int32 → Int32 → (Nat → Int32) → (Nat → Int32) → (Nat → Int32) → (Nat → Int32) → (Nat → Int32) → (Nat → Int32) → (Nat → Int32) → (Nat → Int32) → (Nat → Int32) → (Nat → Int32) → (Nat → Int32) → (Nat → Int32) → (Nat → Int32) → (Nat → Int32) → (Nat → Int32) → (Nat → Int32) → Prop} {t : Nat} (k : cv_K o xx yy zz a4 a5 a6 a7) (hlc : lc ≤ 4) (hd : cv_D o a8 a10 a12 a13 a15)
    (H : ∀ b8 b12 b13 b15 b16, cv_D o b8 a10 b12 b13 b15 → J (nI lc) dl ln 1 1 (nI (t + 1)) 0 cv_Z cv_Z cv_Z a4 a5 a6 a7 b8 cv_Z a10 cv_Z b12 b13 cv_Z b15 b16) : ∃ n, wX_run_29 post J n 0 (nI lc) dl ln 1 1 (nI t) 0 cv_Z cv_Z cv_Z a4 a5 a6 a7 a8 cv_Z a10 cv_Z a12 a13 cv_Z a15 a16 := by
  refine pk_loop (fun n i (s : (Nat → Int32) × (Nat → Int32)) => wX_run_29 post J n (nI i) (nI lc) dl ln 1 1 (nI t) 0 cv_Z cv_Z cv_Z a4 a5 a6 a7 s.1 cv_Z a10 cv_Z a12 s.2 cv_Z a15 a16) (fun _ s => cv_D o s.1 a10 a12 s.2 a15) 4 0 (a8, a13) (by omega) hd ?_ ?_
  · intro n s h
    exact pk_le 4 4 (fun _ => cv_bI k hlc h (fun b12 b15 b16 hb => cv_is1 (nm_r (nI_1 t) (H _ _ _ _ _ hb)))) (fun z => absurd z (by omega))
  · intro n i s hi h hw
    exact pk_le 4 i (fun z => absurd z (by omega)) (fun _ => cv_fE k hlc hi h (fun b8 b13 hb => nm_r (nI_1 i) (hw (_, _) hb)))
theorem cv_idle {post : Int32 → Prop} (h0 : post 0) (h1 : post 1) : wpX_isIdle post (nI lc, dl, ln, 1, nx, tm, 0, cv_Z, cv_Z, cv_Z, a4, a5, a6, a7, a8, cv_Z, a10, cv_Z, a12, a13, cv_Z, a15, a16) :=
  br_c (fun _ => br_c (fun _ => br_c (fun _ => br_c (fun _ => br_c (fun _ => h1) (fun _ => h0)) (fun _ => h0)) (fun _ => h0)) (fun _ => h0)) (fun _ => h0)
theorem cv_10 {post : Int32 → St2 → Prop} (k : cv_K o xx yy zz a4 a5 a6 a7) (hlc : lc ≤ 4)
    (H : ∀ t b8 b12 b13 b15 b16, post 1 (nI lc, dl, ln, 0, 1, t, 0, cv_Z, cv_Z, cv_Z, a4, a5, a6, a7, b8, cv_Z, a10, cv_Z, b12, b13, cv_Z, b15, b16))
    (n t : Nat) (ht : t ≤ 1000) (hn : 1000 - t < n) (hd : cv_D o a8 a10 a12 a13 a15) : wX_run_10 post n (nI lc) dl ln 1 1 (nI t) 0 cv_Z cv_Z cv_Z a4 a5 a6 a7 a8 cv_Z a10 cv_Z a12 a13 cv_Z a15 a16 := by
  refine loop_i (fun n t (s : (Nat → Int32) × (Nat → Int32) × (Nat → Int32) × (Nat → Int32) × (Nat → Int32)) => wX_run_10 post n (nI lc) dl ln 1 1 (nI t) 0 cv_Z cv_Z cv_Z a4 a5 a6 a7 s.1 cv_Z a10 cv_Z s.2.1 s.2.2.1 cv_Z s.2.2.2.1 s.2.2.2.2) (fun _ s => cv_D o s.1 a10 s.2.1 s.2.2.1 s.2.2.2.1) 1000 ?_ ?_ n t (a8, a12, a13, a15, a16) ht hn hd
  · intro n s h
    exact pk_le 1000 1000 (fun _ => H _ _ _ _ _ _) (fun z => absurd z (by omega))
  · intro n t s ht h hw
    exact pk_le 1000 t (fun z => absurd z (by omega)) (fun _ => cv_idle (br_t rfl (cv_29 k hlc h (fun b8 b12 b13 b15 b16 hb => hw (b8, b12, b13, b15, b16) hb))) (br_f (by decide) (H _ _ _ _ _ _)))
theorem cv_bI0 {post : St2 → Prop} (H : post (nI lc, dl, ln, 1, nx, tm, 0, cv_Z, cv_Z, cv_Z, a4, a5, a6, a7, cv_Z, cv_Z, a10, cv_Z, a12, a13, cv_Z, a15, a16)) : wpX_beginInOrder post (nI lc, dl, ln, 1, nx, tm, 0, cv_Z, cv_Z, cv_Z, a4, a5, a6, a7, cv_Z, cv_Z, a10, cv_Z, a12, a13, cv_Z, a15, a16) :=
  ⟨0 + 1, pk_le 4 0 (fun z => absurd z (by omega)) (fun _ => pk_loop (σ := Unit) (fun m v _ => wX_beginInOrder_14 post (wX_beginInOrder_4 post 0) (-1) 0 (nI lc) dl ln 1 nx tm 0 cv_Z cv_Z cv_Z a4 a5 a6 a7 cv_Z cv_Z a10 cv_Z a12 a13 cv_Z a15 a16 m (-1) (nI v)) (fun _ _ => True) 4 0 () (by omega) trivial
    (fun n _ _ => pk_le 4 4 (fun _ => br_f (by decide) H) (fun z => absurd z (by omega)))
    (fun n v _ hv _ hw => pk_le 4 v (fun z => absurd z (by omega)) (fun _ => ⟨pk_in v 4 hv, br_t rfl (nm_r (nI_1 v) (hw () trivial))⟩)))⟩
theorem cv_290 {post : Int32 → St2 → Prop} {J : Int32 → Int32 → Int32 → Int32 → Int32 → Int32 → Int32 → (Nat → Int32) → (Nat → Int32) → (Nat → Int32) → (Nat → Int32) → (Nat → Int32) → (Nat → Int32) → (Nat → Int32) → (Nat → Int32) → (Nat → Int32) → (Nat → Int32) → (Nat → Int32) → (Nat → Int32) → (Nat → Int32) → (Nat → Int32) → (Nat → Int32) → (Nat → Int32) → Prop}
    (H : ∀ Q : St2 → Prop, (∀ (lc dl ln pl nx tm sm tn : Int32) (a1 a2 a3 a4 a5 a6 a7 a8 a9 a10 a11 a12 a13 a14 a15 a16 : Nat → Int32), tm + 1 = tn → J lc dl ln pl nx tn sm a1 a2 a3 a4 a5 a6 a7 a8 a9 a10 a11 a12 a13 a14 a15 a16 → Q (lc, dl, ln, pl, nx, tm, sm, a1, a2, a3, a4, a5, a6, a7, a8, a9, a10, a11, a12, a13, a14, a15, a16)) → wpX_issue Q (nI lc, dl, ln, 1, nx, tm, 0, cv_Z, cv_Z, cv_Z, a4, a5, a6, a7, cv_Z, cv_Z, a10, cv_Z, a12, a13, cv_Z, a15, a16)) : ∃ n, wX_run_29 post J n 0 (nI lc) dl ln 1 nx tm 0 cv_Z cv_Z cv_Z a4 a5 a6 a7 cv_Z cv_Z a10 cv_Z a12 a13 cv_Z a15 a16 :=
  pk_loop (σ := Unit) (fun n i _ => wX_run_29 post J n (nI i) (nI lc) dl ln 1 nx tm 0 cv_Z cv_Z cv_Z a4 a5 a6 a7 cv_Z cv_Z a10 cv_Z a12 a13 cv_Z a15 a16) (fun _ _ => True) 4 0 () (by omega) trivial
    (fun n _ _ => pk_le 4 4 (fun _ => cv_bI0 (H _ (fun lc dl ln pl nx tm sm tn a1 a2 a3 a4 a5 a6 a7 a8 a9 a10 a11 a12 a13 a14 a15 a16 e hj => nm_r e hj))) (fun z => absurd z (by omega)))
    (fun n v _ hv _ hw => pk_le 4 v (fun z => absurd z (by omega)) (fun _ => ⟨pk_in v 4 hv, br_t rfl (nm_r (nI_1 v) (hw () trivial))⟩))
theorem cv_uF {post : Int32 → Prop} (ho : o ≤ 9) (h : post (nI (cv_un o))) : wpX_unitFor post (nI lc, dl, ln, 1, nx, tm, 0, cv_Z, cv_Z, cv_Z, a4, a5, a6, a7, a8, cv_Z, a10, cv_Z, a12, a13, cv_Z, a15, a16) (nI o) := by
  refine pk_eq o 2 (fun e => ?_) (fun e2 => pk_eq o 5 (fun e => ?_) (fun e5 => pk_lt 4 o (fun e4 => pk_lt 8 o (fun e => ?_) (fun e => ?_)) (fun e4 => ?_)))
  · have e' : cv_un o = 1 := by unfold cv_un; rw [if_pos (by omega)]
    rw [e'] at h
    exact h
  · have e' : cv_un o = 1 := by unfold cv_un; rw [if_pos (by omega)]
    rw [e'] at h
    exact h
  · have e' : cv_un o = 3 := by unfold cv_un; rw [if_neg (by omega), if_neg (by omega), if_neg (by omega)]
    rw [e'] at h
    exact h
  · have e' : cv_un o = 2 := by unfold cv_un; rw [if_neg (by omega), if_neg (by omega), if_pos (by omega)]
    rw [e'] at h
    exact h
  · have e' : cv_un o = 0 := by unfold cv_un; rw [if_neg (by omega), if_pos (by omega)]
    rw [e'] at h
    exact h
theorem cv_i180 {post : St2 → Prop} (ho : o ≤ 9) (H : post (nI lc, dl, ln, 1, 1, tm, 0, cv_Z, cv_Z, cv_Z, a4, a5, a6, a7, a8, cv_Z, a10, cv_Z, a12, a13, cv_Z, a15, a16)) : wX_issue_180 post (nI o) (nI lc) dl ln 1 0 tm 0 cv_Z cv_Z cv_Z a4 a5 a6 a7 a8 cv_Z a10 cv_Z a12 a13 cv_Z a15 a16 :=
  pk_eq o 9 (fun _ => nm_r cv_01 H) (fun _ => nm_r cv_01 H)
theorem cv_i160 {post : St2 → Prop} (k : cv_K o xx yy zz a4 a5 a6 a7) (hu : u < 4) (H : post (nI lc, dl, ln, 1, 1, tm, 0, cv_Z, cv_Z, cv_Z, a4, a5, a6, a7, a8, cv_Z, a10, cv_Z, a12, a13, cv_Z, a15, a16)) : wX_issue_160 post (nI o) (nI u) (nI lc) dl ln 1 0 tm 0 cv_Z cv_Z cv_Z a4 a5 a6 a7 a8 cv_Z a10 cv_Z a12 a13 cv_Z a15 a16 := by
  obtain ⟨k1, k2, k3, k4, k5, k6, k7⟩ := k
  exact ⟨pk_in 0 16 (by omega), pk_in yy 4 (by omega) (by rw [cv_e0]; exact k6), pk_in u 4 hu, nm_r (cv_uZ _) (cv_i180 k1 H)⟩
theorem cv_i148 {post : St2 → Prop} (k : cv_K o xx yy zz a4 a5 a6 a7) (hu : u < 4) (H : post (nI lc, dl, ln, 1, 1, tm, 0, cv_Z, cv_Z, cv_Z, a4, a5, a6, a7, a8, cv_Z, a10, cv_Z, a12, a13, cv_Z, a15, a16)) : wX_issue_148 post (nI o) (nI u) (nI lc) dl ln 1 0 tm 0 cv_Z cv_Z cv_Z a4 a5 a6 a7 a8 cv_Z a10 cv_Z a12 a13 cv_Z a15 a16 := by
  have k1 := k.1
  exact pk_eq o 6 (fun _ => cv_i160 k hu H) (fun _ => pk_eq o 7 (fun _ => cv_i160 k hu H) (fun _ => cv_i180 k1 H))
theorem cv_i128 {post : St2 → Prop} (k : cv_K o xx yy zz a4 a5 a6 a7) (ho : o ≤ 5) (hu : u < 4) (H : post (nI lc, dl, ln, 1, 1, tm, 0, cv_Z, cv_Z, cv_Z, a4, a5, a6, a7, a8, cv_Z, a10, cv_Z, a12, a13, cv_Z, a15, a16)) : wX_issue_128 post (nI o) (nI u) (nI lc) dl ln 1 0 tm 0 cv_Z cv_Z cv_Z a4 a5 a6 a7 a8 cv_Z a10 cv_Z a12 a13 cv_Z a15 a16 := by
  have kk := k
  obtain ⟨k1, k2, k3, k4, k5, k6, k7⟩ := k
  obtain ⟨k8, k9⟩ := k7 ho
  exact ⟨pk_in 0 16 (by omega), pk_in zz 4 (by omega) (by rw [cv_e0]; exact k9), pk_in u 4 hu, nm_r (cv_uZ _) (cv_i148 kk hu H)⟩
theorem cv_Dst (o : Nat) : cv_D o (upd cv_Z (cv_un o) 1) (upd cv_Z (cv_un o) 16) cv_Z cv_Z cv_Z := by
  refine ⟨fun u _ => ?_, fun u => ?_, fun j => ⟨0, by omega, rfl⟩⟩
  · by_cases e : u = cv_un o
    · exact Or.inr e
    · exact Or.inl (pk_un e)
  · by_cases e : u = cv_un o
    · exact ⟨16, 0, 0, by omega, by omega, by omega, by rw [e]; exact pk_us, rfl, rfl⟩
    · exact ⟨0, 0, 0, by omega, by omega, by omega, by rw [pk_un e]; rfl, rfl, rfl⟩
theorem cv_is0 {post : St2 → Prop} (k : cv_K o xx yy zz a4 a5 a6 a7)
    (H : ∀ b8 b10, cv_D o b8 b10 cv_Z cv_Z cv_Z → post (nI lc, dl, 16, 1, 1, tm, 0, cv_Z, cv_Z, cv_Z, a4, a5, a6, a7, b8, cv_Z, b10, cv_Z, cv_Z, cv_Z, cv_Z, cv_Z, a16)) : wpX_issue post (nI lc, dl, 16, 1, 0, tm, 0, cv_Z, cv_Z, cv_Z, a4, a5, a6, a7, cv_Z, cv_Z, cv_Z, cv_Z, cv_Z, cv_Z, cv_Z, cv_Z, a16) := by
  have k1 := k.1
  have k4 := k.2.2.2.1
  have hu := cv_un4 o
  have H' := H _ _ (cv_Dst o)
  refine br_t (by decide) ⟨pk_in 0 16 (by omega), nm_r (e' := nI o) (by rw [cv_e0]; exact k4) (br_t rfl (br_t rfl (pk_lt o 10 (fun _ => cv_uF k1 ?_) (fun h => absurd h (by omega)))))⟩
  refine ⟨pk_in (cv_un o) 4 hu, br_t rfl ⟨pk_in (cv_un o) 4 hu, nm_r (e' := upd cv_Z (cv_un o) 1) (by rw [cv_cl (by omega)]) ⟨pk_in (cv_un o) 4 hu, nm_r (e' := cv_Z) (cv_uZ _) ⟨pk_in (cv_un o) 4 hu, nm_r (e' := upd cv_Z (cv_un o) 16) (by rw [cv_cl (by omega)]; rfl) ⟨pk_in (cv_un o) 4 hu, nm_r (cv_uZ _) ⟨pk_in (cv_un o) 4 hu, nm_r (cv_uZ _) ?_⟩⟩⟩⟩⟩⟩
  exact pk_eq o 4 (fun e => cv_i128 k (by omega) hu H') (fun _ => pk_eq o 5 (fun e => cv_i128 k (by omega) hu H') (fun _ => cv_i148 k hu H'))
theorem cv_isS {post : St2 → Prop} (ho : 10 ≤ o) (ho' : o ≤ 12) (hx : xx ≤ 3) (k4 : a4 0 = nI o) (k5 : a5 0 = nI xx) (k6 : o = 11 → yy ≤ 3 ∧ a6 0 = nI yy) (k7 : o = 11 → zz ≤ 3 ∧ a7 0 = nI zz)
    (H10 : o = 10 → post (nI lc, dl, ln, 1, 1, tm, 0, cv_Z, upd cv_Z xx (a6 0), cv_Z, a4, a5, a6, a7, cv_Z, cv_Z, a10, cv_Z, a12, a13, cv_Z, a15, a16)) (H11 : o = 11 → post (nI lc, dl, ln, 1, 1, tm, 0, cv_Z, cv_Z, cv_Z, a4, a5, a6, a7, cv_Z, cv_Z, a10, cv_Z, a12, a13, cv_Z, a15, a16)) (H12 : o = 12 → post (nI lc, dl, 0, 1, 1, tm, 0, cv_Z, cv_Z, cv_Z, a4, a5, a6, a7, cv_Z, cv_Z, a10, cv_Z, a12, a13, cv_Z, a15, a16)) : wpX_issue post (nI lc, dl, ln, 1, 0, tm, 0, cv_Z, cv_Z, cv_Z, a4, a5, a6, a7, cv_Z, cv_Z, a10, cv_Z, a12, a13, cv_Z, a15, a16) := by
  refine br_t (by decide) ⟨pk_in 0 16 (by omega), nm_r (e' := nI o) (by rw [cv_e0]; exact k4) (br_t rfl (br_t rfl (pk_lt o 10 (fun h => absurd h (by omega)) (fun _ => ?_))))⟩
  refine ⟨pk_in 0 16 (by omega), nm_r (e' := nI xx) (by rw [cv_e0]; exact k5) ⟨pk_in 0 16 (by omega), nm_r (e' := nI o) (by rw [cv_e0]; exact k4) ?_⟩⟩
  refine pk_eq o 10 (fun h => ⟨pk_in 0 16 (by omega), pk_in xx 4 (by omega), nm_r (e' := upd cv_Z xx (a6 0)) (by rw [cv_e0, cv_cl (by omega)]) (nm_r cv_01 (H10 h))⟩) (fun h10 => pk_eq o 11 (fun h => ?_) (fun h11 => ⟨pk_in xx 4 (by omega), nm_r (e' := 0) rfl (br_t (by decide) (br_t (by decide) (nm_r cv_01 (H12 (by omega)))))⟩))
  obtain ⟨hy, ey⟩ := k6 h
  obtain ⟨hz, ez⟩ := k7 h
  exact ⟨pk_in 0 16 (by omega), pk_in yy 4 (by omega) (by rw [cv_e0]; exact ey), pk_in 0 16 (by omega), pk_in zz 4 (by omega) (by rw [cv_e0]; exact ez), pk_in xx 4 (by omega), nm_r (e' := cv_Z) (cv_uZ _) (nm_r cv_01 (H11 h))⟩
/-- a cycle in which nothing works and nothing waits: the run ends -/
theorem cv_10e {post : Int32 → St2 → Prop} {n : Nat} (H : post 1 (nI lc, dl, ln, 0, 1, 1, 0, cv_Z, a2, cv_Z, a4, a5, a6, a7, cv_Z, cv_Z, a10, cv_Z, a12, a13, cv_Z, a15, a16)) : wX_run_10 post (n + 1) (nI lc) dl ln 1 1 1 0 cv_Z a2 cv_Z a4 a5 a6 a7 cv_Z cv_Z a10 cv_Z a12 a13 cv_Z a15 a16 :=
  pk_le 1000 1 (fun z => absurd z (by omega)) (fun _ => br_t (by decide) (br_t rfl (br_t rfl (br_t rfl (br_t rfl (br_f (by decide) H))))))
theorem cv_run {post : Int32 → St2 → Prop} (ho : o ≤ 12) (hlc : lc ≤ 4) (hx : xx ≤ 3) (k4 : a4 0 = nI o) (k5 : a5 0 = nI xx) (k6 : o ≠ 10 → o ≠ 12 → yy ≤ 3 ∧ a6 0 = nI yy) (k7 : o ≤ 5 ∨ o = 11 → zz ≤ 3 ∧ a7 0 = nI zz)
    (H : ∀ (ln tm : Int32) (a2 a8 a10 a12 a13 a15 a16 : Nat → Int32), (o = 10 → a2 xx = a6 0) → (o ≠ 10 → a2 xx = 0) → (o = 12 → ln = 0) → (o ≠ 12 → ln = 16) → post 1 (nI lc, dl, ln, 0, 1, tm, 0, cv_Z, a2, cv_Z, a4, a5, a6, a7, a8, cv_Z, a10, cv_Z, a12, a13, cv_Z, a15, a16)) :
    wpX_run post (nI lc, dl, 16, 1, 0, 0, 0, cv_Z, cv_Z, cv_Z, a4, a5, a6, a7, cv_Z, cv_Z, cv_Z, cv_Z, cv_Z, cv_Z, cv_Z, cv_Z, cv_Z) := by
  refine ⟨1001 + 1, pk_le 1000 0 (fun z => absurd z (by omega)) (fun _ => br_f (by decide) (br_t rfl (cv_290 (fun Q hQ => ?_))))⟩
  by_cases h9 : o ≤ 9
  · have k : cv_K o xx yy zz a4 a5 a6 a7 := ⟨h9, hx, (k6 (by omega) (by omega)).1, k4, k5, (k6 (by omega) (by omega)).2, fun h => k7 (Or.inl h)⟩
    refine cv_is0 k (fun b8 b10 hb => hQ _ _ _ _ _ _ _ _ _ _ _ _ _ _ _ _ _ _ _ _ _ _ _ _ cv_01 ?_)
    exact cv_10 k hlc (fun t b8 b12 b13 b15 b16 => H _ _ _ _ _ _ _ _ _ (fun h => absurd h (by omega)) (fun _ => rfl) (fun h => absurd h (by omega)) (fun _ => rfl)) 1001 1 (by omega) (by omega) hb
  · refine cv_isS (by omega) ho hx k4 k5 (fun h => k6 (by omega) (by omega)) (fun h => k7 (Or.inr h)) (fun h => ?_) (fun h => ?_) (fun h => ?_)
    · exact hQ _ _ _ _ _ _ _ _ _ _ _ _ _ _ _ _ _ _ _ _ _ _ _ _ cv_01 (cv_10e (n := 1000) (H _ _ _ _ _ _ _ _ _ (fun _ => pk_us) (fun z => absurd h z) (fun z => absurd z (by omega)) (fun _ => rfl)))
    · exact hQ _ _ _ _ _ _ _ _ _ _ _ _ _ _ _ _ _ _ _ _ _ _ _ _ cv_01 (cv_10e (n := 1000) (H _ _ _ _ _ _ _ _ _ (fun z => absurd z (by omega)) (fun _ => rfl) (fun z => absurd z (by omega)) (fun _ => rfl)))
    · exact hQ _ _ _ _ _ _ _ _ _ _ _ _ _ _ _ _ _ _ _ _ _ _ _ _ cv_01 (cv_10e (n := 1000) (H _ _ _ _ _ _ _ _ _ (fun z => absurd z (by omega)) (fun _ => rfl) (fun _ => rfl) (fun z => absurd h z)))
theorem cv_run0 {post : Int32 → St2 → Prop} (H : post 0 (nI lc, dl, 16, 0, 0, 0, 0, cv_Z, cv_Z, cv_Z, cv_Z, cv_Z, cv_Z, cv_Z, cv_Z, cv_Z, cv_Z, cv_Z, cv_Z, cv_Z, cv_Z, cv_Z, cv_Z)) : wpX_run post (nI lc, dl, 16, 0, 0, 0, 0, cv_Z, cv_Z, cv_Z, cv_Z, cv_Z, cv_Z, cv_Z, cv_Z, cv_Z, cv_Z, cv_Z, cv_Z, cv_Z, cv_Z, cv_Z, cv_Z) :=
  ⟨0 + 1, pk_le 1000 0 (fun z => absurd z (by omega)) (fun _ => br_t (by decide) (br_t rfl (br_t rfl (br_t rfl (br_t rfl (br_f (by decide) H))))))⟩
end
end
section
def cv_in (r : Int32) : Prop := ¬ r < 0 ∧ ¬ 3 < r
def cv_A (op x : Int32) : Prop := ¬ op < 0 ∧ ¬ 12 < op ∧ cv_in x
def cv_B (op y : Int32) : Prop := op = 10 ∨ op = 12 ∨ cv_in y
def cv_C (op z : Int32) : Prop := op ≤ 5 ∨ op = 11 → cv_in z
/-- a flag: 1 where P holds, 0 where it doesn't -/
def cv_fl (f : Int32) (P : Prop) : Prop := (f = 1 ∧ P) ∨ (f = 0 ∧ ¬ P)
theorem cv_f1 {P : Prop} (h : P) : cv_fl 1 P := Or.inl ⟨rfl, h⟩
theorem cv_f0 {P : Prop} (h : ¬ P) : cv_fl 0 P := Or.inr ⟨rfl, h⟩
theorem cv_fN {f : Int32} {P : Prop} (h : cv_fl f P) (hf : f = 0) : ¬ P := by
  rcases h with ⟨e, _⟩ | ⟨_, n⟩
  · rw [e] at hf
    exact absurd hf (by decide)
  · exact n
theorem cv_fP {f : Int32} {P : Prop} (h : cv_fl f P) (hf : ¬ f = 0) : P := by
  rcases h with ⟨_, p⟩ | ⟨e, _⟩
  · exact p
  · exact absurd e hf
theorem cv_fq {f : Int32} {P Q : Prop} (h : cv_fl f P) (e : P ↔ Q) : cv_fl f Q := by
  rcases h with ⟨e1, p⟩ | ⟨e0, n⟩
  · exact Or.inl ⟨e1, e.mp p⟩
  · exact Or.inr ⟨e0, fun q => n (e.mpr q)⟩
theorem cv_lin {post : Int32 → Prop} {r : Int32} (h1 : cv_in r → post 1) (h0 : ¬ cv_in r → post 0) : wpL_in post () r :=
  br_c (fun h => h0 (fun z => z.1 h)) (fun h => br_c (fun g => h0 (fun z => z.2 g)) (fun g => h1 ⟨h, g⟩))
theorem cv_inN {r : Int32} (h : cv_in r) : ∃ j : Nat, j ≤ 3 ∧ r = nI j := nI_of2 (M := 3) (by decide) h.1 (Int32.not_lt.mp h.2)
section
variable {lc dl ln pl nx tm sm : Int32} {a1 a2 a3 a4 a5 a6 a7 a8 a9 a10 a11 a12 a13 a14 a15 a16 : Nat → Int32}
theorem cv_reg {post : Int32 → Prop} {r : Int32} (h1 : cv_in r → post 1) (h0 : ¬ cv_in r → post 0) : wpX_isRegister post (lc, dl, ln, pl, nx, tm, sm, a1, a2, a3, a4, a5, a6, a7, a8, a9, a10, a11, a12, a13, a14, a15, a16) r :=
  br_c (fun h => h0 (fun z => z.1 h)) (fun h => br_c (fun g => h0 (fun z => z.2 g)) (fun g => h1 ⟨h, g⟩))
end
section
variable {p0 p1 p2 p3 p4 p5 : Int32} {mc ms : Nat} {post : Int32 → St0 → Prop}
theorem cv_law66 {f : Int32} (hc : p1 ≤ 5 ∨ p1 = 11) (hf : cv_fl f (cv_A p1 p2 ∧ cv_B p1 p3)) (H : ∀ f, cv_fl f ((cv_A p1 p2 ∧ cv_B p1 p3) ∧ cv_C p1 p4) → wL_lawOf_86 post mc ms p0 p1 p2 p3 p4 p5 f 0 0) : wL_lawOf_66 post mc ms p0 p1 p2 p3 p4 p5 f 0 0 :=
  br_c (fun e => H 0 (cv_f0 (fun q => cv_fN hf e q.1))) (fun e => cv_lin (fun hz => br_f (by decide) (H 1 (cv_f1 ⟨cv_fP hf e, fun _ => hz⟩))) (fun hz => br_t rfl (H 0 (cv_f0 (fun q => hz (q.2 hc))))))
theorem cv_law55 {f : Int32} (hf : cv_fl f (cv_A p1 p2 ∧ cv_B p1 p3)) (H : ∀ f, cv_fl f ((cv_A p1 p2 ∧ cv_B p1 p3) ∧ cv_C p1 p4) → wL_lawOf_86 post mc ms p0 p1 p2 p3 p4 p5 f 0 0) : wL_lawOf_55 post mc ms p0 p1 p2 p3 p4 p5 f 0 0 :=
  br_c (fun h5 => cv_law66 (Or.inl h5) hf H) (fun h5 => br_c (fun h11 => cv_law66 (Or.inr h11) hf H) (fun h11 => H f (cv_fq hf ⟨fun q => ⟨q, fun c => absurd c (fun d => d.elim h5 h11)⟩, fun q => q.1⟩)))
theorem cv_law22 {f : Int32} (hf : cv_fl f (cv_A p1 p2)) (H : ∀ f, cv_fl f ((cv_A p1 p2 ∧ cv_B p1 p3) ∧ cv_C p1 p4) → wL_lawOf_86 post mc ms p0 p1 p2 p3 p4 p5 f 0 0) : wL_lawOf_22 post mc ms p0 p1 p2 p3 p4 p5 f 0 0 :=
  br_c (fun h => cv_law55 (cv_fq hf ⟨fun q => ⟨q, Or.inl h⟩, fun q => q.1⟩) H) (fun h => br_c (fun g => cv_law55 (cv_fq hf ⟨fun q => ⟨q, Or.inr (Or.inl g)⟩, fun q => q.1⟩) H) (fun g => br_c (fun e => cv_law55 (cv_f0 (fun q => cv_fN hf e q.1)) H) (fun e => cv_lin (fun hy => br_f (by decide) (cv_law55 (cv_f1 ⟨cv_fP hf e, Or.inr (Or.inr hy)⟩) H)) (fun hy => br_t rfl (cv_law55 (cv_f0 (fun q => q.2.elim h (fun d => d.elim g hy))) H)))))
theorem cv_lawOf (H : ∀ f, cv_fl f ((cv_A p1 p2 ∧ cv_B p1 p3) ∧ cv_C p1 p4) → wL_lawOf_86 post mc ms p0 p1 p2 p3 p4 p5 f 0 0) : wpL_lawOf post mc ms () p0 p1 p2 p3 p4 p5 :=
  br_c (fun h => cv_law22 (cv_f0 (fun q => q.1 h)) H) (fun h => br_c (fun g => cv_law22 (cv_f0 (fun q => q.2.1 g)) H) (fun g => cv_lin (fun hx => br_f (by decide) (cv_law22 (cv_f1 ⟨h, g, hx⟩) H)) (fun hx => br_t rfl (cv_law22 (cv_f0 (fun q => hx q.2.2)) H))))
theorem cv_law86 {f : Int32} (H : ∀ e, cv_fl e (cv_in p2 ∧ ¬ p3 < 0 ∧ ¬ 15 < p3) → wL_lawOf_108 post mc ms p0 p1 p2 p3 p4 p5 f e 0 0) : wL_lawOf_86 post mc ms p0 p1 p2 p3 p4 p5 f 0 0 :=
  cv_lin (fun hx => br_f (by decide) (br_c (fun h => H 0 (cv_f0 (fun q => q.2.1 h))) (fun h => br_c (fun g => H 0 (cv_f0 (fun q => q.2.2 g))) (fun g => H 1 (cv_f1 ⟨hx, h, g⟩))))) (fun hx => br_t rfl (H 0 (cv_f0 (fun q => hx q.1))))
end
section
variable {post : St2 → Prop} {p0 p1 : Int32}
theorem cv_i145 {mc ms kc ks : Nat} {z0 : Int32} (H : ∀ d, post (z0, d, 16, 0, 0, 0, 0, cv_Z, cv_Z, cv_Z, cv_Z, cv_Z, cv_Z, cv_Z, cv_Z, cv_Z, cv_Z, cv_Z, cv_Z, cv_Z, cv_Z, cv_Z, cv_Z)) : wX_init_145 post mc ms p1 z0 kc ks 0 0 0 0 0 0 0 (fun _ => 0) (fun _ => 0) (fun _ => 0) (fun _ => 0) (fun _ => 0) (fun _ => 0) (fun _ => 0) (fun _ => 0) (fun _ => 0) (fun _ => 0) (fun _ => 0) (fun _ => 0) (fun _ => 0) (fun _ => 0) (fun _ => 0) (fun _ => 0) :=
  br_c (fun _ => br_c (fun _ => H _) (fun _ => H _)) (fun _ => H _)
theorem cv_init (H : ∀ (lc : Nat) (d : Int32), lc ≤ 4 → post (nI lc, d, 16, 0, 0, 0, 0, cv_Z, cv_Z, cv_Z, cv_Z, cv_Z, cv_Z, cv_Z, cv_Z, cv_Z, cv_Z, cv_Z, cv_Z, cv_Z, cv_Z, cv_Z, cv_Z)) : wpX_init post 16 412 (0, 0, 0, 0, 0, 0, 0) p0 p1 := by
  refine ⟨by decide, by decide, by decide, by decide, by decide, by decide, by decide, by decide, by decide, by decide, by decide, by decide, by decide, by decide, by decide, by decide, by decide, by decide, by decide, by decide, by decide, by decide, by decide, by decide, by decide, by decide, by decide, by decide, by decide, by decide, by decide, by decide, ?_⟩
  refine br_c (fun h1 => br_c (fun h4 => ?_) (fun _ => cv_i145 (fun d => H 4 d (by omega)))) (fun _ => cv_i145 (fun d => H 1 d (by omega)))
  obtain ⟨j, hj, e⟩ := nI_of2 (M := 4) (n := 4) (x := p0) (by decide) (fun z => absurd (Int32.lt_of_lt_of_le z (by decide : (0 : Int32) ≤ 1)) (Int32.not_lt.mpr h1)) h4
  rw [e]
  exact cv_i145 (fun d => H j d hj)
end
section
variable {post : Int32 → St2 → Prop} {p0 p1 p2 p3 : Int32} {lc : Nat} {dl : Int32}
theorem cv_e76 (H : post 1 (nI lc, dl, 16, 1, 0, 0, 0, cv_Z, cv_Z, cv_Z, upd cv_Z 0 p0.toInt8.toInt32, upd cv_Z 0 p1.toInt8.toInt32, upd cv_Z 0 p2, upd cv_Z 0 p3, cv_Z, cv_Z, cv_Z, cv_Z, cv_Z, cv_Z, cv_Z, cv_Z, cv_Z)) : wX_emit_76 post p0 p1 p2 p3 (nI lc) dl 16 0 0 0 0 cv_Z cv_Z cv_Z cv_Z cv_Z cv_Z cv_Z cv_Z cv_Z cv_Z cv_Z cv_Z cv_Z cv_Z cv_Z cv_Z :=
  ⟨pk_in 0 16 (by omega), nm_r (by rw [cv_e0]) ⟨pk_in 0 16 (by omega), nm_r (by rw [cv_e0]) ⟨pk_in 0 16 (by omega), nm_r (by rw [cv_e0]) ⟨pk_in 0 16 (by omega), nm_r (by rw [cv_e0]) (nm_r cv_01 H)⟩⟩⟩⟩
theorem cv_e54 (H1 : cv_C p0 p3 → post 1 (nI lc, dl, 16, 1, 0, 0, 0, cv_Z, cv_Z, cv_Z, upd cv_Z 0 p0.toInt8.toInt32, upd cv_Z 0 p1.toInt8.toInt32, upd cv_Z 0 p2, upd cv_Z 0 p3, cv_Z, cv_Z, cv_Z, cv_Z, cv_Z, cv_Z, cv_Z, cv_Z, cv_Z)) (H0 : ¬ cv_C p0 p3 → post (-1) (nI lc, dl, 16, 0, 0, 0, 0, cv_Z, cv_Z, cv_Z, cv_Z, cv_Z, cv_Z, cv_Z, cv_Z, cv_Z, cv_Z, cv_Z, cv_Z, cv_Z, cv_Z, cv_Z, cv_Z)) : wX_emit_54 post p0 p1 p2 p3 (nI lc) dl 16 0 0 0 0 cv_Z cv_Z cv_Z cv_Z cv_Z cv_Z cv_Z cv_Z cv_Z cv_Z cv_Z cv_Z cv_Z cv_Z cv_Z cv_Z := by
  have h65 : (p0 ≤ 5 ∨ p0 = 11) → wX_emit_65 post p0 p1 p2 p3 (nI lc) dl 16 0 0 0 0 cv_Z cv_Z cv_Z cv_Z cv_Z cv_Z cv_Z cv_Z cv_Z cv_Z cv_Z cv_Z cv_Z cv_Z cv_Z cv_Z := fun hc =>
    cv_reg (fun hz => br_f (by decide) (cv_e76 (H1 (fun _ => hz)))) (fun hz => br_t rfl (H0 (fun q => hz (q hc))))
  exact br_c (fun h => h65 (Or.inl h)) (fun h => br_c (fun g => h65 (Or.inr g)) (fun g => cv_e76 (H1 (fun c => absurd c (fun d => d.elim h g)))))
theorem cv_emit (H1 : (cv_A p0 p1 ∧ cv_B p0 p2) ∧ cv_C p0 p3 → post 1 (nI lc, dl, 16, 1, 0, 0, 0, cv_Z, cv_Z, cv_Z, upd cv_Z 0 p0.toInt8.toInt32, upd cv_Z 0 p1.toInt8.toInt32, upd cv_Z 0 p2, upd cv_Z 0 p3, cv_Z, cv_Z, cv_Z, cv_Z, cv_Z, cv_Z, cv_Z, cv_Z, cv_Z))
    (H0 : ¬ ((cv_A p0 p1 ∧ cv_B p0 p2) ∧ cv_C p0 p3) → post (-1) (nI lc, dl, 16, 0, 0, 0, 0, cv_Z, cv_Z, cv_Z, cv_Z, cv_Z, cv_Z, cv_Z, cv_Z, cv_Z, cv_Z, cv_Z, cv_Z, cv_Z, cv_Z, cv_Z, cv_Z)) : wpX_emit post (nI lc, dl, 16, 0, 0, 0, 0, cv_Z, cv_Z, cv_Z, cv_Z, cv_Z, cv_Z, cv_Z, cv_Z, cv_Z, cv_Z, cv_Z, cv_Z, cv_Z, cv_Z, cv_Z, cv_Z) p0 p1 p2 p3 :=
  br_t (by decide) (br_c (fun h => H0 (fun q => q.1.1.1 h)) (fun h => br_c (fun g => H0 (fun q => q.1.1.2.1 g)) (fun g => cv_reg (fun hx => br_f (by decide)
    (br_c (fun e => cv_e54 (fun c => H1 ⟨⟨⟨h, g, hx⟩, Or.inl e⟩, c⟩) (fun c => H0 (fun q => c q.2))) (fun e => br_c (fun e2 => cv_e54 (fun c => H1 ⟨⟨⟨h, g, hx⟩, Or.inr (Or.inl e2)⟩, c⟩) (fun c => H0 (fun q => c q.2))) (fun e2 => cv_reg (fun hy => br_f (by decide) (cv_e54 (fun c => H1 ⟨⟨⟨h, g, hx⟩, Or.inr (Or.inr hy)⟩, c⟩) (fun c => H0 (fun q => c q.2)))) (fun hy => br_t rfl (H0 (fun q => q.1.2.elim e (fun d => d.elim e2 hy))))))))
    (fun hx => br_t rfl (H0 (fun q => hx q.1.1.2.2))))))
end
section
variable {post : Int32 → St0 → Prop} {mc ms kc ks : Nat} {lc dl ln pl nx tm sm : Int32} {a1 a2 a3 a4 a5 a6 a7 a8 a9 a10 a11 a12 a13 a14 a15 a16 : Nat → Int32} {op x y v f e : Int32}
theorem cv_255 (hp : post 1 ()) {z : Int32} : wL_lawOf_255 post mc ms z z kc ks := br_t rfl hp
theorem cv_sc {post : Int32 → Prop} {r : Int32} (h1 : cv_in r → vp_in r 4 ∧ post (a2 r.toNatClampNeg)) (h0 : ¬ cv_in r → post 0) : wpX_scalar post (lc, dl, ln, pl, nx, tm, sm, a1, a2, a3, a4, a5, a6, a7, a8, a9, a10, a11, a12, a13, a14, a15, a16) r := by
  unfold wpX_scalar
  exact cv_reg (fun h => br_f (by decide) (h1 h)) (fun h => br_t rfl (h0 h))
theorem cv_setEl {post : Int32 → St2 → Prop} {p0 p1 p2 : Int32} (h1 : cv_in p0 ∧ ¬ p1 < 0 ∧ ¬ 15 < p1 → vp_in (16 * p0 + p1) 64 ∧ post 1 (lc, dl, ln, pl, nx, tm, sm, upd a1 (16 * p0 + p1).toNatClampNeg p2, a2, a3, a4, a5, a6, a7, a8, a9, a10, a11, a12, a13, a14, a15, a16)) (h0 : ¬ (cv_in p0 ∧ ¬ p1 < 0 ∧ ¬ 15 < p1) → post 0 (lc, dl, ln, pl, nx, tm, sm, a1, a2, a3, a4, a5, a6, a7, a8, a9, a10, a11, a12, a13, a14, a15, a16)) : wpX_setElement post (lc, dl, ln, pl, nx, tm, sm, a1, a2, a3, a4, a5, a6, a7, a8, a9, a10, a11, a12, a13, a14, a15, a16) p0 p1 p2 := by
  unfold wpX_setElement
  refine cv_reg (fun h => br_f (by decide) (br_c (fun g => h0 (fun q => q.2.1 g)) (fun g => br_c (fun w => ?_) (fun w => h0 (fun q => q.2.2 (Int32.not_le.mp w)))))) (fun h => br_t rfl (h0 (fun q => h q.1)))
  have := h1 ⟨h, g, Int32.not_lt.mpr w⟩
  exact ⟨this.1, nm_e this.2⟩
theorem cv_el {post : Int32 → Prop} {p0 p1 : Int32} (h1 : cv_in p0 ∧ ¬ p1 < 0 ∧ ¬ 15 < p1 → vp_in (16 * p0 + p1) 64 ∧ post (a1 (16 * p0 + p1).toNatClampNeg)) (h0 : ¬ (cv_in p0 ∧ ¬ p1 < 0 ∧ ¬ 15 < p1) → post 0) : wpX_element post (lc, dl, ln, pl, nx, tm, sm, a1, a2, a3, a4, a5, a6, a7, a8, a9, a10, a11, a12, a13, a14, a15, a16) p0 p1 := by
  unfold wpX_element
  exact cv_reg (fun h => br_f (by decide) (br_c (fun g => h0 (fun q => q.2.1 g)) (fun g => br_c (fun w => h0 (fun q => q.2.2 w)) (fun w => h1 ⟨h, g, w⟩)))) (fun h => br_t rfl (h0 (fun q => h q.1)))
theorem cv_216 (hp : post 1 ()) (he : cv_fl e (cv_in x ∧ ¬ y < 0 ∧ ¬ 15 < y)) {z : Int32} : wL_lawOf_216 post mc ms x y v e z z kc ks lc dl ln pl nx tm sm cv_Z a2 a3 a4 a5 a6 a7 a8 a9 a10 a11 a12 a13 a14 a15 a16 := by
  refine br_t rfl (cv_setEl (fun q => ?_) (fun q => ?_))
  · have e1 : e = 1 := he.elim (fun w => w.1) (fun w => absurd q w.2)
    subst e1
    obtain ⟨i, hi, ei⟩ := cv_inN q.1
    obtain ⟨j, hj, ej⟩ := nI_of2 (M := 15) (n := 15) (by decide) q.2.1 (Int32.not_lt.mp q.2.2)
    have es : vp_in (16 * x + y) 64 := pk_in (16 * i + j) 64 (by omega) (by rw [ei, ej, cv_sl])
    refine ⟨es, br_t rfl (cv_el (fun _ => ⟨es, br_f (by decide) ?_⟩) (fun n => absurd q n))⟩
    exact br_t pk_us hp
  · have e0 : e = 0 := he.elim (fun w => absurd w.2 q) (fun w => w.1)
    subst e0
    exact br_t rfl (cv_el (fun n => absurd n q) (fun _ => br_t rfl (cv_255 hp)))
theorem cv_189 (hp : post 1 ()) (he : cv_fl e (cv_in x ∧ ¬ y < 0 ∧ ¬ 15 < y)) {z : Int32} (h0 : ¬ f = 0 → op = 12 → ln = 0) (h1 : (f = 0 ∨ ¬ op = 12) → ln = 16) : wL_lawOf_189 post mc ms op x y v f e z z kc ks lc dl ln pl nx tm sm cv_Z a2 a3 a4 a5 a6 a7 a8 a9 a10 a11 a12 a13 a14 a15 a16 := by
  refine br_t rfl (br_c (fun h => ?_) (fun h => br_c (fun g => ?_) (fun g => ?_)))
  · have e := h1 (Or.inl h)
    subst e
    exact cv_216 hp he
  · have e := h0 h g
    subst e
    exact cv_216 hp he
  · have e := h1 (Or.inr g)
    subst e
    exact cv_216 hp he
theorem cv_162 (hp : post 1 ()) (he : cv_fl e (cv_in x ∧ ¬ y < 0 ∧ ¬ 15 < y)) {z : Int32} (h0 : ¬ f = 0 → op = 12 → ln = 0) (h1 : (f = 0 ∨ ¬ op = 12) → ln = 16)
    (hx : ¬ f = 0 → cv_in x) (g0 : ¬ f = 0 → op = 10 → a2 x.toNatClampNeg = y) (g1 : (f = 0 ∨ ¬ op = 10) → a2 x.toNatClampNeg = 0) : wL_lawOf_162 post mc ms op x y v f e z z kc ks lc dl ln pl nx tm sm cv_Z a2 a3 a4 a5 a6 a7 a8 a9 a10 a11 a12 a13 a14 a15 a16 := by
  have hN : ∀ {z : Int32}, wL_lawOf_189 post mc ms op x y v f e z z kc ks lc dl ln pl nx tm sm cv_Z a2 a3 a4 a5 a6 a7 a8 a9 a10 a11 a12 a13 a14 a15 a16 := cv_189 hp he h0 h1
  refine br_t rfl (cv_sc (fun r => ?_) (fun r => ?_))
  · obtain ⟨i, hi, ei⟩ := cv_inN r
    refine ⟨pk_in i 4 (by omega) ei, br_c (fun h => ?_) (fun h => br_c (fun g => ?_) (fun g => ?_))⟩
    · rw [g1 (Or.inl h)]
      exact hN
    · rw [g0 h g]
      exact hN
    · rw [g1 (Or.inr g)]
      exact hN
  · exact br_c (fun h => hN) (fun h => absurd (hx h) r)
end
end
section
theorem cv_bb {op : Int32} {o : Nat} (ho : o ≤ 12) (e : op = nI o) : upd cv_Z 0 op.toInt8.toInt32 0 = nI o := by
  rw [pk_us, e, cv_b o (by omega)]
theorem cv_108 {post : Int32 → St0 → Prop} {p0 p1 p2 p3 p4 p5 f e : Int32} (hp : post 1 ()) (hf : cv_fl f ((cv_A p1 p2 ∧ cv_B p1 p3) ∧ cv_C p1 p4)) (he : cv_fl e (cv_in p2 ∧ ¬ p3 < 0 ∧ ¬ 15 < p3)) :
    wL_lawOf_108 post 210 3360 p0 p1 p2 p3 p4 p5 f e 0 0 := by
  refine ⟨by decide, by decide, 16, 412, by decide, by decide, cv_init (fun lc d hlc => cv_emit (fun h => ?_) (fun h => ?_))⟩
  · have ef : f = 1 := hf.elim (fun q => q.1) (fun q => absurd h q.2)
    subst ef
    obtain ⟨⟨⟨hA1, hA2, hx⟩, hB⟩, hC⟩ := h
    obtain ⟨o, ho, eo⟩ := nI_of2 (M := 12) (n := 12) (by decide) hA1 (Int32.not_lt.mp hA2)
    obtain ⟨xx, hxx, ex⟩ := cv_inN hx
    have k6 : ∃ yy : Nat, o ≠ 10 → o ≠ 12 → yy ≤ 3 ∧ upd cv_Z 0 p3 0 = nI yy := by
      rcases hB with h | h | h
      · exact ⟨0, fun n => absurd ((nI_eq (b := 10) (by omega) (by omega)).mp (by rw [← eo, h]; rfl)) n⟩
      · exact ⟨0, fun _ n => absurd ((nI_eq (b := 12) (by omega) (by omega)).mp (by rw [← eo, h]; rfl)) n⟩
      · obtain ⟨j, hj, ej⟩ := cv_inN h
        exact ⟨j, fun _ _ => ⟨hj, by rw [pk_us]; exact ej⟩⟩
    obtain ⟨yy, k6⟩ := k6
    have k7 : ∃ zz : Nat, o ≤ 5 ∨ o = 11 → zz ≤ 3 ∧ upd cv_Z 0 p4 0 = nI zz := by
      by_cases hc : o ≤ 5 ∨ o = 11
      · have hc' : p1 ≤ 5 ∨ p1 = 11 := by
          rw [eo]
          rcases hc with h | h
          · exact Or.inl (nI_le (b := 5) h (by omega))
          · exact Or.inr (by rw [h]; rfl)
        obtain ⟨j, hj, ej⟩ := cv_inN (hC hc')
        exact ⟨j, fun _ => ⟨hj, by rw [pk_us]; exact ej⟩⟩
      · exact ⟨0, fun h => absurd h hc⟩
    obtain ⟨zz, k7⟩ := k7
    refine br_f (by decide) (br_t rfl (cv_run ho hlc hxx (cv_bb ho eo) (cv_bb (by omega) ex) k6 k7 (fun ln tm a2 a8 a10 a12 a13 a15 a16 g1 g2 g3 g4 => br_f (by decide) ?_)))
    have cx : p2.toNatClampNeg = xx := by rw [ex]; exact cv_cl (by omega)
    have q10 : p1 = 10 ↔ o = 10 := by rw [eo]; exact nI_eq (b := 10) (by omega) (by omega)
    have q12 : p1 = 12 ↔ o = 12 := by rw [eo]; exact nI_eq (b := 12) (by omega) (by omega)
    refine cv_162 hp he (fun _ g => g3 (q12.mp g)) (fun g => g4 (fun z => g.elim (fun w => absurd w (by decide)) (fun w => w (q12.mpr z)))) (fun _ => hx) (fun _ g => ?_) (fun g => ?_)
    · rw [cx, g1 (q10.mp g), pk_us]
    · rw [cx]
      exact g2 (fun z => g.elim (fun w => absurd w (by decide)) (fun w => w (q10.mpr z)))
  · have ef : f = 0 := hf.elim (fun q => absurd q.2 h) (fun q => q.1)
    subst ef
    exact br_t rfl (br_t rfl (cv_run0 (br_t rfl (cv_162 hp he (fun n => absurd rfl n) (fun _ => rfl) (fun n => absurd rfl n) (fun n => absurd rfl n) (fun _ => rfl)))))
theorem cv_cell {post : Int32 → Prop} {L : Nat} {xs : Nat → Int32} {k : Nat} {p : Int32} (ep : p = nI k) (hL : L ≤ 6) (hk : k ≤ 6) (H : ∀ r, post r) : wpL_cellAt post L xs () p :=
  pk_le L k (fun _ => H _) (fun h => ⟨pk_in k L h ep, H _⟩) rfl ep
theorem i_vc (xs : Nat → Int32) (L : Nat) (hL : L ≤ 6) : wpL_law (fun r => r = 1) L xs :=
  cv_cell (k := 0) rfl hL (by omega) (fun r1 => cv_cell (k := 1) rfl hL (by omega) (fun r2 => cv_cell (k := 2) rfl hL (by omega) (fun r3 => cv_cell (k := 3) rfl hL (by omega) (fun r4 => cv_cell (k := 4) rfl hL (by omega) (fun r5 => cv_cell (k := 5) rfl hL (by omega) (fun r6 =>
    ⟨210, 3360, by decide, by decide, cv_lawOf (fun f hf => cv_law86 (fun e he => cv_108 rfl hf he))⟩))))))
end
