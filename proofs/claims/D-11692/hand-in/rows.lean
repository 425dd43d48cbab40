section
/-- among n places a list shorter than n leaves one out -/
theorem nt_free : ∀ (n : Nat) (U : List Nat), U.length < n → ∃ b, b < n ∧ b ∉ U := by
  intro n
  induction n with
  | zero => intro U h; exact absurd h (by omega)
  | succ n ih =>
    intro U h
    by_cases hn : n ∈ U
    · have h1 : (U.erase n).length = U.length - 1 := List.length_erase_of_mem hn
      have h2 : 0 < U.length := List.length_pos_of_mem hn
      obtain ⟨b, hb, hbn⟩ := ih (U.erase n) (by omega)
      refine ⟨b, by omega, fun hm => hbn ?_⟩
      exact (List.mem_erase_of_ne (by omega)).mpr hm
    · exact ⟨n, by omega, hn⟩
/-- where a node lies: its block, the blocks of its words -/
abbrev nt_K : Type := Nat × (Nat → Nat)
/-- what a file holds: nothing, or a size and words -/
abbrev nt_Y : Type := Option (Nat × (Nat → Int32))
def nt_up {α : Type} (f : Nat → α) (k : Nat) (x : α) : Nat → α := fun j => if j = k then x else f j
theorem nt_ups {α : Type} {f : Nat → α} {k : Nat} {x : α} : nt_up f k x k = x := if_pos rfl
theorem nt_upn {α : Type} {f : Nat → α} {k j : Nat} {x : α} (h : j ≠ k) : nt_up f k x j = f j := if_neg h
/-- a node number v, its picture -/
def nt_nd (a1 a3 a4 : Nat → Int32) (v : Int32) (k : nt_K) (y : nt_Y) : Prop :=
  match y with
  | none => v = -1
  | some (s, c) => v = nI k.1 ∧ k.1 < 128 ∧ s ≤ 4 ∧ a3 k.1 = nI s ∧ ∀ i, i < s → k.2 i < 128 ∧ a4 (k.1 * 4 + i) = nI (k.2 i) ∧ a1 (k.2 i) = c i
/-- the blocks of a node -/
def nt_bl (k : nt_K) (y : nt_Y) : List Nat :=
  match y with
  | none => []
  | some (s, _) => k.1 :: (List.range s).map k.2
theorem nt_bl_len {a1 a3 a4 : Nat → Int32} {v : Int32} {k : nt_K} {y : nt_Y} (h : nt_nd a1 a3 a4 v k y) : (nt_bl k y).length ≤ 5 := by
  cases y with
  | none => exact Nat.zero_le 5
  | some p =>
    obtain ⟨s, c⟩ := p
    have hs : s ≤ 4 := h.2.2.1
    simp only [nt_bl, List.length_cons, List.length_map, List.length_range]
    omega
theorem nt_bl_some {k : nt_K} {s : Nat} {c : Nat → Int32} {b : Nat} : b ∈ nt_bl k (some (s, c)) ↔ b = k.1 ∨ ∃ i, i < s ∧ b = k.2 i := by
  simp only [nt_bl, List.mem_cons, List.mem_map, List.mem_range]
  constructor
  · rintro (h | ⟨i, hi, h⟩)
    · exact Or.inl h
    · exact Or.inr ⟨i, hi, h.symm⟩
  · rintro (h | ⟨i, hi, h⟩)
    · exact Or.inl h
    · exact Or.inr ⟨i, hi, h.symm⟩
/-- arrays that agree on a node's blocks: the node is what it was -/
theorem nt_frame {a1 a3 a4 b1 b3 b4 : Nat → Int32} {v : Int32} {k : nt_K} {y : nt_Y} (h : nt_nd a1 a3 a4 v k y)
    (hb : ∀ x, x ∈ nt_bl k y → b1 x = a1 x ∧ b3 x = a3 x ∧ ∀ i, i < 4 → b4 (x * 4 + i) = a4 (x * 4 + i)) : nt_nd b1 b3 b4 v k y := by
  cases y with
  | none => exact h
  | some p =>
    obtain ⟨s, c⟩ := p
    obtain ⟨h1, h2, h3, h4, h5⟩ := h
    have hk := hb k.1 (nt_bl_some.mpr (Or.inl rfl))
    refine ⟨h1, h2, h3, hk.2.1.trans h4, fun i hi => ⟨(h5 i hi).1, ?_, ?_⟩⟩
    · rw [hk.2.2 i (by omega)]
      exact (h5 i hi).2.1
    · rw [(hb (k.2 i) (nt_bl_some.mpr (Or.inr ⟨i, hi, rfl⟩))).1]
      exact (h5 i hi).2.2
/-- the marks: a holds 0 just where U isn't -/
def nt_mk (U : List Nat) (a : Nat → Int32) : Prop := ∀ b, b < 128 → (a b = 0 ↔ b ∉ U)
theorem nt_mk_add {U : List Nat} {a : Nat → Int32} {b : Nat} (h : nt_mk U a) : nt_mk (U ++ [b]) (upd a b 1) := by
  intro j hj
  by_cases e : j = b
  · rw [e, pk_us]
    constructor
    · intro z
      exact absurd z (by decide)
    · intro z
      exact absurd (List.mem_append_right U (List.mem_singleton.mpr rfl)) z
  · rw [pk_un e, h j hj, List.mem_append, List.mem_singleton]
    constructor
    · intro z t
      exact t.elim z e
    · intro z t
      exact z (Or.inl t)
/-- blocks of all files -/
def nt_us (Bn Bl Bp : Nat → List Nat) : Nat → List Nat
  | 0 => []
  | h + 1 => nt_us Bn Bl Bp h ++ Bn h ++ Bl h ++ Bp h
theorem nt_us_mem {Bn Bl Bp : Nat → List Nat} {b n h : Nat} (hh : h < n) (hb : b ∈ Bn h ∨ b ∈ Bl h ∨ b ∈ Bp h) : b ∈ nt_us Bn Bl Bp n := by
  induction n with
  | zero => omega
  | succ n ih =>
    show b ∈ nt_us Bn Bl Bp n ++ Bn n ++ Bl n ++ Bp n
    by_cases e : h = n
    · subst e
      rcases hb with hb | hb | hb
      · exact List.mem_append_left _ (List.mem_append_left _ (List.mem_append_right _ hb))
      · exact List.mem_append_left _ (List.mem_append_right _ hb)
      · exact List.mem_append_right _ hb
    · exact List.mem_append_left _ (List.mem_append_left _ (List.mem_append_left _ (ih (by omega))))
theorem nt_us_len {Bn Bl Bp : Nat → List Nat} {n : Nat} (h : ∀ j, j < n → (Bn j).length ≤ 5 ∧ (Bl j).length ≤ 5 ∧ (Bp j).length ≤ 5) : (nt_us Bn Bl Bp n).length ≤ 15 * n := by
  induction n with
  | zero => exact Nat.le_refl 0
  | succ n ih =>
    show (nt_us Bn Bl Bp n ++ Bn n ++ Bl n ++ Bp n).length ≤ 15 * (n + 1)
    have h1 := ih (fun j hj => h j (by omega))
    have h2 := h n (by omega)
    rw [List.length_append, List.length_append, List.length_append]
    omega
/-- six nodes -/
def nt_sl (a1 a3 a4 vs : Nat → Int32) (K : Nat → nt_K) (Y : Nat → nt_Y) : Prop := ∀ h, h < 6 → nt_nd a1 a3 a4 (vs h) (K h) (Y h)
theorem nt_ix (k i : Nat) : nI k * 4 + nI i = nI (k * 4 + i) := by
  rw [show (4 : Int32) = nI 4 from rfl, pk_mul, nI_add]
theorem nt_ixc {k i : Nat} (hk : k < 128) (hi : i < 4) : (nI k * 4 + nI i).toNatClampNeg = k * 4 + i := by
  rw [nt_ix, nI_clamp (by omega)]
theorem nt_ix6 (k i : Nat) : nI k * 6 + nI i = nI (k * 6 + i) := by
  rw [show (6 : Int32) = nI 6 from rfl, pk_mul, nI_add]
theorem nt_ix8 (k : Nat) : nI k * 8 = nI (k * 8) := by
  rw [show (8 : Int32) = nI 8 from rfl, pk_mul]
theorem nt_ix88 (k : Nat) : nI k * 8 + 8 = nI (k * 8 + 8) := by
  rw [nt_ix8, show (8 : Int32) = nI 8 from rfl, nI_add]
theorem nt_par {N : Nat} (h : N < 1000) : nI N &&& 1 = nI (N % 2) := pk_andN (m := 1) (by omega) 1 (by decide)
theorem nt_nm1 {n : Nat} (h : n < 2 ^ 31) : ¬ nI n = -1 := by
  intro z
  have h1 := nI_pos h
  rw [z] at h1
  exact h1 (by decide)
theorem nt_dec {n : Nat} (h : n < 2 ^ 31) : nI n + (-1) < nI n := by
  cases n with
  | zero => decide
  | succ n =>
    rw [pk_m1]
    exact nI_lt (Nat.lt_succ_self n) h
theorem nt_cl {i : Nat} (h : i < 1000) : (nI i).toNatClampNeg = i := nI_clamp (by omega)
end
section
theorem nt_need {post : St2 → Prop} {ch cd nu sg : Int32} {a1 a2 a3 a4 a5 a6 a7 a8 a9 a10 a11 a12 a13 a14 : Nat → Int32} {U : List Nat} {v : Int32} (k : nt_K) (y : nt_Y) (hn : nt_nd a1 a3 a4 v k y) (hm : nt_mk U a14)
    (H : ∀ b14, nt_mk (U ++ nt_bl k y) b14 → post (ch, cd, nu, sg, a1, a2, a3, a4, a5, a6, a7, a8, a9, a10, a11, a12, a13, b14)) : wpX_need post (ch, cd, nu, sg, a1, a2, a3, a4, a5, a6, a7, a8, a9, a10, a11, a12, a13, a14) v := by
  cases y with
  | none =>
    refine br_t hn (H a14 ?_)
    show nt_mk (U ++ []) a14
    rw [List.append_nil]
    exact hm
  | some p =>
    obtain ⟨s, c⟩ := p
    obtain ⟨h1, hk, hs, h3, hw⟩ := hn
    subst h1
    refine br_f (nt_nm1 (by omega)) ⟨pk_in k.1 128 hk, nm_e ?_⟩
    rw [nI_clamp (show k.1 < 2 ^ 31 by omega)]
    refine pk_loop (fun n i s14 => wX_need_15 post (nI k.1) ch cd nu sg n (nI i) a1 a2 a3 a4 a5 a6 a7 a8 a9 a10 a11 a12 a13 s14) (fun i s14 => nt_mk (U ++ (k.1 :: (List.range i).map k.2)) s14) s 0 (upd a14 k.1 1) (Nat.zero_le s) (nt_mk_add hm) ?_ ?_
    · intro n s14 h
      exact ⟨pk_in k.1 128 hk, pk_le s s (fun _ => H s14 h) (fun z => absurd z (by omega)) (hx := by rw [nI_clamp (by omega), h3])⟩
    · intro n i s14 hi h hw'
      refine ⟨pk_in k.1 128 hk, pk_le s i (fun z => absurd z (by omega)) (fun _ => ?_) (hx := by rw [nI_clamp (by omega), h3])⟩
      have e1 := nt_ixc (i := i) hk (by omega)
      have e2 := (hw i hi).2.1
      have e3 := (hw i hi).1
      refine ⟨pk_in (k.1 * 4 + i) 512 (by omega) (hx := nt_ix _ _), pk_in (k.2 i) 128 e3 (hx := by rw [e1, e2]), nm_r (by rw [e1, e2, nI_clamp (by omega)]) (nm_r (nI_1 i) (hw' _ ?_))⟩
      have := nt_mk_add (b := k.2 i) h
      rw [List.append_assoc] at this
      rw [List.range_succ, List.map_append]
      exact this
/-- the chain's blocks -/
theorem nt_s94 {post : St2 → Prop} {ch cd nu sg : Int32} {a1 a2 a3 a4 a5 a6 a7 a8 a9 a10 a11 a12 a13 a14 : Nat → Int32} {U CL : List Nat} {N : Nat} (hN : nu = nI N) (hN2 : N < 1000) (hm : nt_mk U a14)
    (hcl : (cd = 0 ∧ CL = []) ∨ ∃ b, b < 128 ∧ cd = 1 ∧ a10 (N % 2) = nI b ∧ CL = [b])
    (H : ∀ b14, nt_mk (U ++ CL) b14 → post (ch, cd, nu, sg, a1, a2, a3, a4, a5, a6, a7, a8, a9, a10, a11, a12, a13, b14)) : wX_survey_94 post ch cd nu sg a1 a2 a3 a4 a5 a6 a7 a8 a9 a10 a11 a12 a13 a14 := by
  subst hN
  have e1 : nI N &&& 1 = nI (N % 2) := nt_par hN2
  have e2 : (nI N &&& 1).toNatClampNeg = N % 2 := by rw [e1, nI_clamp (by omega)]
  refine ⟨pk_in (N % 2) 2 (by omega) (hx := e1), ?_⟩
  rcases hcl with ⟨h1, h2⟩ | ⟨b, hb, h1, h2, h3⟩
  · subst h1 h2
    refine nm_e ⟨1, br_t (by decide) (H a14 ?_)⟩
    rw [List.append_nil]
    exact hm
  · subst h1 h3
    refine nm_r (by rw [e2, h2]) ⟨2, br_f (by decide) ⟨pk_in b 128 hb, nm_r (by rw [nI_clamp (by omega)]) ⟨pk_in b 128 hb, nm_e (nm_e (br_t (by decide) (H _ (nt_mk_add hm))))⟩⟩⟩
theorem nt_s24 {post : St2 → Prop} {ch cd nu sg : Int32} {a1 a2 a3 a4 a5 a6 a7 a8 a9 a10 a11 a12 a13 a14 : Nat → Int32} {Kn Kl Kp : Nat → nt_K} {Yn Yl Yp : Nat → nt_Y} {CH CL : List Nat} {N : Nat} (hN : nu = nI N) (hN2 : N < 1000)
    (hn : nt_sl a1 a3 a4 a11 Kn Yn) (hl : nt_sl a1 a3 a4 a12 Kl Yl) (hp : nt_sl a1 a3 a4 (fun h => a9 (N % 2 * 6 + h)) Kp Yp)
    (hch : (ch = -1 ∧ CH = []) ∨ ∃ c, c < 128 ∧ ch = nI c ∧ CH = [c])
    (hcl : (cd = 0 ∧ CL = []) ∨ ∃ b, b < 128 ∧ cd = 1 ∧ a10 (N % 2) = nI b ∧ CL = [b]) (hm : nt_mk [] a14)
    (H : ∀ b14, nt_mk (nt_us (fun h => nt_bl (Kn h) (Yn h)) (fun h => nt_bl (Kl h) (Yl h)) (fun h => nt_bl (Kp h) (Yp h)) 6 ++ CH ++ CL) b14 → post (ch, cd, nu, sg, a1, a2, a3, a4, a5, a6, a7, a8, a9, a10, a11, a12, a13, b14)) : ∃ n, wX_survey_24 post n 0 ch cd nu sg a1 a2 a3 a4 a5 a6 a7 a8 a9 a10 a11 a12 a13 a14 := by
  have e1 : nu &&& 1 = nI (N % 2) := by rw [hN]; exact nt_par hN2
  refine pk_loop (fun n i s => wX_survey_24 post n (nI i) ch cd nu sg a1 a2 a3 a4 a5 a6 a7 a8 a9 a10 a11 a12 a13 s) (fun i s => nt_mk (nt_us (fun h => nt_bl (Kn h) (Yn h)) (fun h => nt_bl (Kl h) (Yl h)) (fun h => nt_bl (Kp h) (Yp h)) i) s) 6 0 a14 (by omega) hm ?_ ?_
  · intro n s h
    refine br_t (nI_le (a := 6) (b := 6) (by omega) (by omega)) ?_
    rcases hch with ⟨h1, h2⟩ | ⟨c, hc, h1, h2⟩
    · subst h2
      refine br_t h1 (nt_s94 hN hN2 h hcl (fun b14 hb => H b14 ?_))
      rw [List.append_nil]
      exact hb
    · subst h1 h2
      refine br_f (nt_nm1 (by omega)) ⟨pk_in c 128 hc, nm_r (by rw [nI_clamp (by omega)]) (nt_s94 hN hN2 (nt_mk_add h) hcl H)⟩
  · intro n i s hi h hw
    refine br_f (nI_ge (b := 6) hi (by omega)) ⟨pk_in i 6 hi, ?_⟩
    have e2 : (nI i).toNatClampNeg = i := nI_clamp (by omega)
    have e3 : (nu &&& 1) * 6 + nI i = nI (N % 2 * 6 + i) := by rw [e1, nt_ix6]
    have e4 : ((nu &&& 1) * 6 + nI i).toNatClampNeg = N % 2 * 6 + i := by rw [e3, nI_clamp (by omega)]
    refine nt_need (Kn i) (Yn i) (by rw [e2]; exact hn i hi) h (fun b14 hb => ⟨pk_in i 6 hi, ?_⟩)
    refine nt_need (Kl i) (Yl i) (by rw [e2]; exact hl i hi) hb (fun c14 hc => ⟨pk_in (N % 2 * 6 + i) 12 (by omega) (hx := e3), ?_⟩)
    refine nt_need (Kp i) (Yp i) (by rw [e4]; exact hp i hi) hc (fun d14 hd => nm_r (nI_1 i) (hw d14 hd))
theorem nt_survey {post : St2 → Prop} {ch cd nu sg : Int32} {a1 a2 a3 a4 a5 a6 a7 a8 a9 a10 a11 a12 a13 a14 : Nat → Int32} {Kn Kl Kp : Nat → nt_K} {Yn Yl Yp : Nat → nt_Y} {CH CL : List Nat} {N : Nat} (hN : nu = nI N) (hN2 : N < 1000)
    (hn : nt_sl a1 a3 a4 a11 Kn Yn) (hl : nt_sl a1 a3 a4 a12 Kl Yl) (hp : nt_sl a1 a3 a4 (fun h => a9 (N % 2 * 6 + h)) Kp Yp)
    (hch : (ch = -1 ∧ CH = []) ∨ ∃ c, c < 128 ∧ ch = nI c ∧ CH = [c])
    (hcl : (cd = 0 ∧ CL = []) ∨ ∃ b, b < 128 ∧ cd = 1 ∧ a10 (N % 2) = nI b ∧ CL = [b])
    (H : ∀ b14, nt_mk (nt_us (fun h => nt_bl (Kn h) (Yn h)) (fun h => nt_bl (Kl h) (Yl h)) (fun h => nt_bl (Kp h) (Yp h)) 6 ++ CH ++ CL) b14 → post (ch, cd, nu, sg, a1, a2, a3, a4, a5, a6, a7, a8, a9, a10, a11, a12, a13, b14)) : wpX_survey post (ch, cd, nu, sg, a1, a2, a3, a4, a5, a6, a7, a8, a9, a10, a11, a12, a13, a14) := by
  refine pk_loop (fun n i s => wX_survey_2 post ch cd nu sg n (nI i) a1 a2 a3 a4 a5 a6 a7 a8 a9 a10 a11 a12 a13 s) (fun i s => ∀ j, j < i → s j = 0) 128 0 a14 (by omega) (fun j hj => absurd hj (by omega)) ?_ ?_
  · intro n s h
    refine br_t (nI_le (a := 128) (b := 128) (by omega) (by omega)) (nt_s24 hN hN2 hn hl hp hch hcl (fun b hb => ?_) H)
    constructor
    · intro _ z
      exact absurd z (List.not_mem_nil)
    · intro _
      exact h b hb
  · intro n i s hi h hw
    refine br_f (nI_ge (b := 128) hi (by omega)) ⟨pk_in i 128 hi, nm_r (by rw [nI_clamp (by omega)]) (nm_r (nI_1 i) (hw _ ?_))⟩
    intro j hj
    by_cases e : j = i
    · rw [e, pk_us]
    · rw [pk_un e]
      exact h j (by omega)
end
section
theorem nt_freeIn {post : Int32 → Prop} {ch cd nu sg : Int32} {a1 a2 a3 a4 a5 a6 a7 a8 a9 a10 a11 a12 a13 a14 : Nat → Int32} {s : Nat} (hs : s < 16)
    (H : ∀ n, n ≤ 8 → (n = 0 ↔ ∀ t, t < 8 → ¬ a14 (s * 8 + t) = 0) → post (nI n)) : wpX_freeIn post (ch, cd, nu, sg, a1, a2, a3, a4, a5, a6, a7, a8, a9, a10, a11, a12, a13, a14) (nI s) := by
  refine nm_r (nt_ix8 s) ?_
  refine pk_loop (fun n i x => wX_freeIn_7 post (nI s) ch cd nu sg a1 a2 a3 a4 a5 a6 a7 a8 a9 a10 a11 a12 a13 a14 n x (nI (s * 8 + i))) (fun i x => ∃ n, x = nI n ∧ n ≤ i ∧ (n = 0 ↔ ∀ t, t < i → ¬ a14 (s * 8 + t) = 0)) 8 0 0 (by omega) ⟨0, rfl, by omega, fun _ t ht => absurd ht (by omega), fun _ => rfl⟩ ?_ ?_
  · intro n x h
    obtain ⟨m, hx, hm, hz⟩ := h
    subst hx
    exact br_t (by rw [nt_ix88]; exact nI_le (Nat.le_refl _) (by omega)) (H m hm hz)
  · intro n i x hi h hw
    obtain ⟨m, hx, hm, hz⟩ := h
    subst hx
    have hw1 : ∀ m', m' ≤ i + 1 → (m' = 0 ↔ ∀ t, t < i + 1 → ¬ a14 (s * 8 + t) = 0) → wX_freeIn_7 post (nI s) ch cd nu sg a1 a2 a3 a4 a5 a6 a7 a8 a9 a10 a11 a12 a13 a14 n (nI m') (nI (s * 8 + i + 1)) := fun m' h1 h2 => hw (nI m') ⟨m', rfl, h1, h2⟩
    have e2 : (nI (s * 8 + i)).toNatClampNeg = s * 8 + i := nI_clamp (by omega)
    refine br_f (by rw [nt_ix88]; exact nI_ge (by omega) (by omega)) ⟨pk_in (s * 8 + i) 128 (by omega), ?_⟩
    rw [e2]
    refine br_c (fun z => nm_r (nI_1 m) (nm_r (nI_1 _) (hw1 (m + 1) (by omega) ?_))) (fun z => nm_r (nI_1 _) (hw1 m (by omega) ?_))
    · constructor
      · intro e
        omega
      · intro e
        exact absurd z (e i (by omega))
    · constructor
      · intro e t' ht'
        by_cases e' : t' = i
        · rw [e']
          exact z
        · exact hz.mp e t' (by omega)
      · intro e
        exact hz.mpr (fun t' ht' => e t' (by omega))
/-- the lowest free block of a segment that has one -/
theorem nt_f54 {post : Int32 → St2 → Prop} {ch cd nu : Int32} {a1 a2 a3 a4 a5 a6 a7 a8 a9 a10 a11 a12 a13 a14 : Nat → Int32} {g : Nat} (hg : g < 16) (hf : ∃ t, t < 8 ∧ a14 (g * 8 + t) = 0)
    (H : ∀ r, r < 128 → a14 r = 0 → post (nI r) (ch, cd, nu, nI g, a1, a2, a3, a4, upd a5 r (-1), a6, a7, a8, a9, a10, a11, a12, a13, a14)) : wX_fresh_54 post ch cd nu (nI g) a1 a2 a3 a4 a5 a6 a7 a8 a9 a10 a11 a12 a13 a14 := by
  have e8 : nI g * 8 + 8 - 1 = nI (g * 8 + 8) + (-1) := by
    rw [nt_ix88, show g * 8 + 8 = g * 8 + 7 + 1 from rfl, nI_pred, pk_m1]
  refine nm_r (nt_ix8 g) (nm_r e8 ⟨9, ?_⟩)
  refine pk_loopD (fun n t x => wX_fresh_75 post ch cd nu (nI g) a1 a2 a3 a4 a5 a6 a7 a8 a9 a10 a11 a12 a13 a14 n x (nI (g * 8 + t) + (-1))) (fun t x => t ≤ 8 ∧ ((∃ r, r < 128 ∧ x = nI r ∧ a14 r = 0) ∨ ∃ t', t' < t ∧ a14 (g * 8 + t') = 0)) ?_ ?_ 8 (nI (g * 8)) ⟨Nat.le_refl 8, Or.inr hf⟩
  · intro n x h
    rcases h.2 with ⟨r, hr, hx, h0⟩ | ⟨t, ht, _⟩
    · subst hx
      exact br_t (by rw [nt_ix8]; exact nt_dec (by omega)) ⟨pk_in r 128 hr, nm_r (by rw [nI_clamp (by omega)]) (H r hr h0)⟩
    · omega
  · intro n t x h hw
    have ht : t < 8 := h.1
    have e1 : nI (g * 8 + (t + 1)) + (-1) = nI (g * 8 + t) := pk_m1 _
    have e2 : (nI (g * 8 + t)).toNatClampNeg = g * 8 + t := nI_clamp (by omega)
    show wX_fresh_75 post ch cd nu (nI g) a1 a2 a3 a4 a5 a6 a7 a8 a9 a10 a11 a12 a13 a14 (n + 1) x (nI (g * 8 + (t + 1)) + (-1))
    rw [e1]
    refine br_f (by rw [nt_ix8]; exact nI_nlt (by omega) (by omega)) ⟨pk_in (g * 8 + t) 128 (by omega), ?_⟩
    rw [e2]
    refine br_c (fun z => nm_e (hw _ ⟨by omega, Or.inl ⟨g * 8 + t, by omega, rfl, z⟩⟩)) (fun z => nm_e (hw _ ⟨by omega, ?_⟩))
    rcases h.2 with h | ⟨t', ht', h0⟩
    · exact Or.inl h
    · refine Or.inr ⟨t', ?_, h0⟩
      rcases Nat.lt_or_ge t' t with q | q
      · exact q
      · have : t' = t := by omega
        subst this
        exact absurd h0 z
/-- the search over the segments -/
theorem nt_f21 {post : Int32 → St2 → Prop} {ch cd nu : Int32} {a1 a2 a3 a4 a5 a6 a7 a8 a9 a10 a11 a12 a13 a14 : Nat → Int32} {g : Nat} (hg : g < 16) (hf : ∃ b, b < 128 ∧ a14 b = 0)
    (H : ∀ r g, r < 128 → g < 16 → a14 r = 0 → post (nI r) (ch, cd, nu, nI g, a1, a2, a3, a4, upd a5 r (-1), a6, a7, a8, a9, a10, a11, a12, a13, a14)) : ∃ n, wX_fresh_21 post ch cd nu a1 a2 a3 a4 a5 a6 a7 a8 a9 a10 a11 a12 a13 a14 n 0 0 (nI g) := by
  refine pk_loop (fun n i (s : Int32 × Int32) => wX_fresh_21 post ch cd nu a1 a2 a3 a4 a5 a6 a7 a8 a9 a10 a11 a12 a13 a14 n s.1 (nI i) s.2)
    (fun i s => ∃ m g, s.1 = nI m ∧ s.2 = nI g ∧ m ≤ 8 ∧ g < 16 ∧ (m = 0 → ∀ s t, s < i → t < 8 → ¬ a14 (s * 8 + t) = 0) ∧ (m ≠ 0 → ∃ t, t < 8 ∧ a14 (g * 8 + t) = 0)) 16 0 ((0 : Int32), nI g) (by omega)
    ⟨0, g, rfl, rfl, by omega, hg, fun _ s t hs _ => absurd hs (by omega), fun z => absurd rfl z⟩ ?_ ?_
  · intro n s h
    obtain ⟨x2, sg'⟩ := s
    obtain ⟨m, g', h1, h2, h3, h4, h5, h6⟩ := h
    have h1' : x2 = nI m := h1
    have h2' : sg' = nI g' := h2
    subst h1' h2'
    refine br_t (nI_le (a := 16) (b := 16) (by omega) (by omega)) (nt_f54 h4 (h6 ?_) (fun r hr h0 => H r g' hr h4 h0))
    intro hm
    obtain ⟨b, hb, h0⟩ := hf
    refine h5 hm (b / 8) (b % 8) (by omega) (by omega) ?_
    rw [show b / 8 * 8 + b % 8 = b by omega]
    exact h0
  · intro n i s hi h hw
    obtain ⟨x2, sg'⟩ := s
    obtain ⟨m, g', h1, h2, h3, h4, h5, h6⟩ := h
    have h1' : x2 = nI m := h1
    have h2' : sg' = nI g' := h2
    subst h1' h2'
    refine br_f (nI_ge (b := 16) hi (by omega)) (nt_freeIn hi (fun k hk hz => ?_))
    refine pk_le k m (fun z => nm_r (nI_1 i) (hw (nI m, nI g') ⟨m, g', rfl, rfl, h3, h4, ?_, h6⟩)) (fun z => nm_r (nI_1 i) (hw (nI k, nI i) ⟨k, i, rfl, rfl, hk, hi, fun e => absurd e (by omega), ?_⟩))
    · intro e s t hs ht
      by_cases es : s = i
      · rw [es]
        exact hz.mp (by omega) t ht
      · exact h5 e s t (by omega) ht
    · intro e
      by_cases hq : ∃ t, t < 8 ∧ a14 (i * 8 + t) = 0
      · exact hq
      · exact absurd (hz.mpr (fun t ht h0 => hq ⟨t, ht, h0⟩)) e
/-- a block that nothing needs -/
theorem nt_fresh {post : Int32 → St2 → Prop} {ch cd nu sg : Int32} {a1 a2 a3 a4 a5 a6 a7 a8 a9 a10 a11 a12 a13 a14 : Nat → Int32} {Kn Kl Kp : Nat → nt_K} {Yn Yl Yp : Nat → nt_Y} {CH CL : List Nat} {N : Nat} (hN : nu = nI N) (hN2 : N < 1000)
    (hn : nt_sl a1 a3 a4 a11 Kn Yn) (hl : nt_sl a1 a3 a4 a12 Kl Yl) (hp : nt_sl a1 a3 a4 (fun h => a9 (N % 2 * 6 + h)) Kp Yp)
    (hch : (ch = -1 ∧ CH = []) ∨ ∃ c, c < 128 ∧ ch = nI c ∧ CH = [c])
    (hcl : (cd = 0 ∧ CL = []) ∨ ∃ b, b < 128 ∧ cd = 1 ∧ a10 (N % 2) = nI b ∧ CL = [b])
    (hsg : ∃ g, g < 16 ∧ sg = nI g)
    (H : ∀ r g b14, r < 128 → g < 16 → (∀ h, h < 6 → r ∉ nt_bl (Kn h) (Yn h) ∧ r ∉ nt_bl (Kl h) (Yl h) ∧ r ∉ nt_bl (Kp h) (Yp h)) → r ∉ CH → r ∉ CL → post (nI r) (ch, cd, nu, nI g, a1, a2, a3, a4, upd a5 r (-1), a6, a7, a8, a9, a10, a11, a12, a13, b14)) : wpX_fresh post (ch, cd, nu, sg, a1, a2, a3, a4, a5, a6, a7, a8, a9, a10, a11, a12, a13, a14) := by
  obtain ⟨g, hg, hsg⟩ := hsg
  subst hsg
  refine nt_survey hN hN2 hn hl hp hch hcl (fun b14 hm => nt_freeIn hg (fun k hk hz => ?_))
  have hfin : ∀ r g, r < 128 → g < 16 → b14 r = 0 → post (nI r) (ch, cd, nu, nI g, a1, a2, a3, a4, upd a5 r (-1), a6, a7, a8, a9, a10, a11, a12, a13, b14) := by
    intro r g hr hg h0
    have hU := (hm r hr).mp h0
    refine H r g b14 hr hg (fun h hh => ⟨fun z => hU ?_, fun z => hU ?_, fun z => hU ?_⟩) (fun z => hU ?_) (fun z => hU ?_)
    · exact List.mem_append_left _ (List.mem_append_left _ (nt_us_mem hh (Or.inl z)))
    · exact List.mem_append_left _ (List.mem_append_left _ (nt_us_mem hh (Or.inr (Or.inl z))))
    · exact List.mem_append_left _ (List.mem_append_left _ (nt_us_mem hh (Or.inr (Or.inr z))))
    · exact List.mem_append_left _ (List.mem_append_right _ z)
    · exact List.mem_append_right _ z
  refine pk_eq k 0 (fun z => nt_f21 hg ?_ hfin) (fun z => nt_f54 hg ?_ (fun r hr h0 => hfin r g hr hg h0))
  · have hlen := nt_us_len (Bn := fun h => nt_bl (Kn h) (Yn h)) (Bl := fun h => nt_bl (Kl h) (Yl h)) (Bp := fun h => nt_bl (Kp h) (Yp h)) (n := 6) (fun j hj => ⟨nt_bl_len (hn j hj), nt_bl_len (hl j hj), nt_bl_len (hp j hj)⟩)
    have hCH : CH.length ≤ 1 := by
      rcases hch with ⟨_, e⟩ | ⟨c, _, _, e⟩
      · rw [e]; exact Nat.zero_le 1
      · rw [e]; exact Nat.le_refl 1
    have hCL : CL.length ≤ 1 := by
      rcases hcl with ⟨_, e⟩ | ⟨c, _, _, _, e⟩
      · rw [e]; exact Nat.zero_le 1
      · rw [e]; exact Nat.le_refl 1
    obtain ⟨b, hb, hbU⟩ := nt_free 128 (nt_us (fun h => nt_bl (Kn h) (Yn h)) (fun h => nt_bl (Kl h) (Yl h)) (fun h => nt_bl (Kp h) (Yp h)) 6 ++ CH ++ CL) (by rw [List.length_append, List.length_append]; omega)
    exact ⟨b, hb, (hm b hb).mpr hbU⟩
  · by_cases hq : ∃ t, t < 8 ∧ b14 (g * 8 + t) = 0
    · exact hq
    · exact absurd (hz.mpr (fun t ht h0 => hq ⟨t, ht, h0⟩)) z
end
section
/-- the chain: no node on it, or one (its block, its file) -/
def nt_C (q : Option (Nat × Nat)) (N c : Nat) (cd : Int32) (a2 a5 a6 a9 a10 a12 : Nat → Int32) : Prop :=
  match q with
  | none => cd = 0 ∧ a10 (N % 2) = nI c ∧ ∀ h, h < 6 → a12 h = a9 (N % 2 * 6 + h)
  | some (b, f) => cd = 1 ∧ a10 (N % 2) = nI b ∧ b < 128 ∧ b ≠ c ∧ a5 b = nI N ∧ a6 b = nI c ∧ f < 6 ∧ a2 b = nI f ∧ a12 f = nI b ∧ ∀ h, h < 6 → h ≠ f → a12 h = a9 (N % 2 * 6 + h)
def nt_CL (q : Option (Nat × Nat)) : List Nat :=
  match q with
  | none => []
  | some (b, _) => [b]
def nt_I (Kn Kl Kp : Nat → nt_K) (Yn Yl Yp : Nat → nt_Y) (N c : Nat) (q : Option (Nat × Nat)) (yg : Nat → Int32) (ch cd nu sg : Int32) (a1 a2 a3 a4 a5 a6 a7 a8 a9 a10 a11 a12 a13 a14 : Nat → Int32) : Prop :=
  (∃ g, g < 16 ∧ sg = nI g) ∧ (1 ≤ N ∧ N < 1000 ∧ nu = nI N) ∧
  (nt_sl a1 a3 a4 a11 Kn Yn ∧ nt_sl a1 a3 a4 a12 Kl Yl ∧ nt_sl a1 a3 a4 (fun h => a9 (N % 2 * 6 + h)) Kp Yp) ∧
  (c < 128 ∧ ch = nI c ∧ a5 c = -1) ∧
  (∀ h, h < 6 → c ∉ nt_bl (Kn h) (Yn h) ∧ c ∉ nt_bl (Kl h) (Yl h) ∧ c ∉ nt_bl (Kp h) (Yp h)) ∧
  (a7 (N % 2) = nI N ∧ a8 (N % 2) = nI N ∧ a7 (1 - N % 2) = nI (N - 1) ∧ a8 (1 - N % 2) = nI (N - 1)) ∧
  nt_C q N c cd a2 a5 a6 a9 a10 a12 ∧ ∀ h, h < 6 → a13 h = yg h
theorem nt_C_cl {q : Option (Nat × Nat)} {N c : Nat} {cd : Int32} {a2 a5 a6 a9 a10 a12 : Nat → Int32} (h : nt_C q N c cd a2 a5 a6 a9 a10 a12) :
    (cd = 0 ∧ nt_CL q = []) ∨ ∃ b, b < 128 ∧ cd = 1 ∧ a10 (N % 2) = nI b ∧ nt_CL q = [b] := by
  cases q with
  | none => exact Or.inl ⟨h.1, rfl⟩
  | some p =>
    obtain ⟨b, f⟩ := p
    exact Or.inr ⟨b, h.2.2.1, h.1, h.2.1, rfl⟩
/-- fresh under the invariant -/
theorem nt_freshI {post : Int32 → St2 → Prop} {ch cd nu sg : Int32} {a1 a2 a3 a4 a5 a6 a7 a8 a9 a10 a11 a12 a13 a14 : Nat → Int32} {Kn Kl Kp : Nat → nt_K} {Yn Yl Yp : Nat → nt_Y} {N c : Nat} {q : Option (Nat × Nat)} {yg : Nat → Int32}
    (hI : nt_I Kn Kl Kp Yn Yl Yp N c q yg ch cd nu sg a1 a2 a3 a4 a5 a6 a7 a8 a9 a10 a11 a12 a13 a14)
    (H : ∀ r g b14, r < 128 → g < 16 → (∀ h, h < 6 → r ∉ nt_bl (Kn h) (Yn h) ∧ r ∉ nt_bl (Kl h) (Yl h) ∧ r ∉ nt_bl (Kp h) (Yp h)) → r ≠ c → r ∉ nt_CL q → post (nI r) (ch, cd, nu, nI g, a1, a2, a3, a4, upd a5 r (-1), a6, a7, a8, a9, a10, a11, a12, a13, b14)) : wpX_fresh post (ch, cd, nu, sg, a1, a2, a3, a4, a5, a6, a7, a8, a9, a10, a11, a12, a13, a14) := by
  obtain ⟨h1, ⟨_, h22, h23⟩, ⟨h31, h32, h33⟩, ⟨h41, h42, _⟩, _, _, h7, _⟩ := hI
  refine nt_fresh (CH := [c]) (CL := nt_CL q) h23 h22 h31 h32 h33 (Or.inr ⟨c, h41, h42, rfl⟩) (nt_C_cl h7) h1 (fun r g b14 hr hg hb hc hq => H r g b14 hr hg hb ?_ hq)
  intro e
  exact hc (List.mem_singleton.mpr e)
/-- one of the nodes of now is another; the blocks that are written are needed by no other -/
theorem nt_I_node {ch cd nu sg : Int32} {a1 a2 a3 a4 a5 a6 a7 a8 a9 a10 a11 a12 a13 a14 : Nat → Int32} {Kn Kl Kp : Nat → nt_K} {Yn Yl Yp : Nat → nt_Y} {N c : Nat} {q : Option (Nat × Nat)} {yg : Nat → Int32}
    (hI : nt_I Kn Kl Kp Yn Yl Yp N c q yg ch cd nu sg a1 a2 a3 a4 a5 a6 a7 a8 a9 a10 a11 a12 a13 a14) {f : Nat} (R : Nat → Prop)
    (hR : ∀ x, R x → ∀ h, h < 6 → (h ≠ f → x ∉ nt_bl (Kn h) (Yn h)) ∧ x ∉ nt_bl (Kl h) (Yl h) ∧ x ∉ nt_bl (Kp h) (Yp h))
    (hRc : ¬ R c) (hRq : ∀ b, b ∈ nt_CL q → ¬ R b) {dg : Int32} {d1 d2 d3 d4 d5 d11 d13 d14 : Nat → Int32}
    (hag : ∀ x, ¬ R x → d1 x = a1 x ∧ d2 x = a2 x ∧ d3 x = a3 x ∧ d5 x = a5 x ∧ ∀ i, i < 4 → d4 (x * 4 + i) = a4 (x * 4 + i))
    {k' : nt_K} {y' : nt_Y} (hk' : nt_nd d1 d3 d4 (d11 f) k' y') (hck : c ∉ nt_bl k' y') (h11 : ∀ h, h ≠ f → d11 h = a11 h)
    {Yn' : Nat → nt_Y} (hY : Yn' f = y') (hY' : ∀ h, h ≠ f → Yn' h = Yn h) {yg' : Nat → Int32} (hyg : ∀ h, h < 6 → d13 h = yg' h) (hsg : ∃ g, g < 16 ∧ dg = nI g) :
    nt_I (nt_up Kn f k') Kl Kp Yn' Yl Yp N c q yg' ch cd nu dg d1 d2 d3 d4 d5 a6 a7 a8 a9 a10 d11 a12 d13 d14 := by
  obtain ⟨h1, h2, ⟨h31, h32, h33⟩, ⟨h41, h42, h43⟩, h5, h6, h7, h8⟩ := hI
  have hfr : ∀ {v : Int32} {k : nt_K} {y : nt_Y}, nt_nd a1 a3 a4 v k y → (∀ x, R x → x ∉ nt_bl k y) → nt_nd d1 d3 d4 v k y := by
    intro v k y hn hx
    refine nt_frame hn (fun x hm => ?_)
    have hx' : ¬ R x := fun z => hx x z hm
    have := hag x hx'
    exact ⟨this.1, this.2.2.1, this.2.2.2.2⟩
  refine ⟨hsg, h2, ⟨?_, ?_, ?_⟩, ⟨h41, h42, ?_⟩, ?_, h6, ?_, hyg⟩
  · intro h hh
    by_cases e : h = f
    · subst e
      rw [nt_ups, hY]
      exact hk'
    · rw [nt_upn e, hY' h e, h11 h e]
      exact hfr (h31 h hh) (fun x hx => (hR x hx h hh).1 e)
  · intro h hh
    exact hfr (h32 h hh) (fun x hx => (hR x hx h hh).2.1)
  · intro h hh
    exact hfr (h33 h hh) (fun x hx => (hR x hx h hh).2.2)
  · rw [(hag c hRc).2.2.2.1]
    exact h43
  · intro h hh
    refine ⟨?_, (h5 h hh).2⟩
    by_cases e : h = f
    · subst e
      rw [nt_ups, hY]
      exact hck
    · rw [nt_upn e, hY' h e]
      exact (h5 h hh).1
  · cases q with
    | none => exact h7
    | some p =>
      obtain ⟨b, fb⟩ := p
      obtain ⟨g1, g2, g3, g4, g5, g6, g7, g8, g9, g10⟩ := h7
      have hb := hag b (hRq b (List.mem_singleton.mpr rfl))
      exact ⟨g1, g2, g3, g4, hb.2.2.2.1.trans g5, g6, g7, hb.2.1.trans g8, g9, g10⟩
end
section
def nt_sz (y : nt_Y) : Nat :=
  match y with
  | none => 0
  | some (s, _) => s
theorem nt_w62 {post : St2 → Prop} {J : Int32 → (Nat → Int32) → (Nat → Int32) → (Nat → Int32) → (Nat → Int32) → (Nat → Int32) → (Nat → Int32) → (Nat → Int32) → (Nat → Int32) → (Nat → Int32) → (Nat → Int32) → (Nat → Int32) → (Nat → Int32) → (Nat → Int32) → (Nat → Int32) → Prop} {ch cd nu sg : Int32} {a1 a2 a3 a4 a5 a6 a7 a8 a9 a10 a11 a12 a13 a14 : Nat → Int32} {x1 x3 x5 z : Int32} {r i : Nat} (hr : r < 128) (hi : i < 4)
    (hJ : J (nI (i + 1)) a1 a2 a3 (upd a4 (r * 4 + i) z) a5 a6 a7 a8 a9 a10 a11 a12 a13 a14) : wX_writeNode_62 post J x1 x3 (-1) x5 (nI r) (nI i) z ch cd nu sg a1 a2 a3 a4 a5 a6 a7 a8 a9 a10 a11 a12 a13 a14 :=
  br_f (nt_nm1 (by omega)) ⟨pk_in (r * 4 + i) 512 (by omega) (hx := nt_ix r i), nm_r (by rw [nt_ixc hr hi]) (nm_r (nI_1 i) hJ)⟩
/-- a node block is written: where the old words stood, the same -/
theorem nt_wn {post : St2 → Prop} {ch cd nu sg : Int32} {a1 a2 a3 a4 a5 a6 a7 a8 a9 a10 a11 a12 a13 a14 : Nat → Int32} {Kn Kl Kp : Nat → nt_K} {Yn Yl Yp : Nat → nt_Y} {N c : Nat} {q : Option (Nat × Nat)} {yg : Nat → Int32}
    (hI : nt_I Kn Kl Kp Yn Yl Yp N c q yg ch cd nu sg a1 a2 a3 a4 a5 a6 a7 a8 a9 a10 a11 a12 a13 a14) {f : Nat} (hf : f < 6) (s : Nat) {v : Int32} (k : nt_K) (y : nt_Y) (hv : nt_nd a1 a3 a4 v k y)
    (hsub : ∀ x, x ∈ nt_bl k y → ∃ h, h < 6 ∧ x ∈ nt_bl (Kn h) (Yn h))
    (H : ∀ r g b4 b14, r < 128 → g < 16 → (∀ h, h < 6 → r ∉ nt_bl (Kn h) (Yn h) ∧ r ∉ nt_bl (Kl h) (Yl h) ∧ r ∉ nt_bl (Kp h) (Yp h)) → r ≠ c → r ∉ nt_CL q →
      (∀ x i, i < 4 → x ≠ r → b4 (x * 4 + i) = a4 (x * 4 + i)) → (∀ i, i < nt_sz y → b4 (r * 4 + i) = nI (k.2 i)) →
      post (ch, cd, nu, nI g, a1, upd a2 r (nI f), upd a3 r (nI s), b4, upd a5 r (-1), a6, a7, a8, a9, a10, upd a11 f (nI r), a12, a13, b14)) : wpX_writeNode post (ch, cd, nu, sg, a1, a2, a3, a4, a5, a6, a7, a8, a9, a10, a11, a12, a13, a14) (nI f) (nI s) v (-1) (-1) := by
  refine nt_freshI hI (fun r g b14 hr hg hb hc hq => ?_)
  have er : (nI r).toNatClampNeg = r := nI_clamp (by omega)
  refine ⟨pk_in r 128 hr, nm_r (by rw [er]) ⟨pk_in r 128 hr, nm_r (by rw [er]) ?_⟩⟩
  refine pk_loop (fun n i b4 => wX_writeNode_25 post (nI f) v (-1) (-1) (nI r) ch cd nu (nI g) n (nI i) a1 (upd a2 r (nI f)) (upd a3 r (nI s)) b4 (upd a5 r (-1)) a6 a7 a8 a9 a10 a11 a12 a13 b14)
    (fun i b4 => (∀ x j, j < 4 → x ≠ r → b4 (x * 4 + j) = a4 (x * 4 + j)) ∧ ∀ j, j < i → j < nt_sz y → b4 (r * 4 + j) = nI (k.2 j)) 4 0 a4 (by omega) ⟨fun _ _ _ _ => rfl, fun j hj => absurd hj (by omega)⟩ ?_ ?_
  · intro n b4 h
    have hsz : nt_sz y ≤ 4 := by
      cases y with
      | none => exact Nat.zero_le 4
      | some p => exact hv.2.2.1
    exact br_t (nI_le (a := 4) (b := 4) (by omega) (by omega)) ⟨pk_in f 6 hf, nm_r (by rw [nI_clamp (by omega)]) (H r g b4 b14 hr hg hb hc hq h.1 (fun i hi => h.2 i (by omega) hi))⟩
  · intro n i b4 hi h hw
    refine br_f (nI_ge (b := 4) hi (by omega)) ?_
    have hother : ∀ z x j, j < 4 → x ≠ r → upd b4 (r * 4 + i) z (x * 4 + j) = a4 (x * 4 + j) := by
      intro z x j hj hx
      rw [pk_un (by omega)]
      exact h.1 x j hj hx
    cases y with
    | none =>
      exact br_t hv (nt_w62 hr hi (hw _ ⟨hother _, fun j _ hj => absurd hj (Nat.not_lt_zero j)⟩))
    | some p =>
      obtain ⟨so, co⟩ := p
      obtain ⟨v1, v2, v3, v4, v5⟩ := hv
      subst v1
      have hkr : k.1 ≠ r := by
        intro e
        obtain ⟨h', hh', hm⟩ := hsub k.1 (nt_bl_some.mpr (Or.inl rfl))
        exact (hb h' hh').1 (by rw [← e]; exact hm)
      refine br_f (nt_nm1 (by omega)) ⟨pk_in k.1 128 v2, ?_⟩
      refine pk_lt i so (fun z => ⟨pk_in (k.1 * 4 + i) 512 (by omega) (hx := nt_ix _ _), nt_w62 hr hi (hw _ ⟨hother _, ?_⟩)⟩) (fun z => nt_w62 hr hi (hw _ ⟨hother _, ?_⟩)) (hy := by rw [nI_clamp (by omega), pk_un hkr]; exact v4) (hb := by omega)
      · intro j hj hj'
        by_cases e : j = i
        · rw [e, pk_us, nt_ixc v2 hi, h.1 k.1 i hi hkr]
          exact (v5 i z).2.1
        · rw [pk_un (by omega)]
          exact h.2 j (by omega) hj'
      · intro j hj hj'
        have hj'' : j < so := hj'
        rw [pk_un (by omega)]
        exact h.2 j (by omega) hj'
theorem nt_bad {post : Int32 → Prop} {ch cd nu sg : Int32} {a1 a2 a3 a4 a5 a6 a7 a8 a9 a10 a11 a12 a13 a14 : Nat → Int32} {f : Nat} (hf : f < 6) (H : post 0) : wpX_bad post (ch, cd, nu, sg, a1, a2, a3, a4, a5, a6, a7, a8, a9, a10, a11, a12, a13, a14) (nI f) :=
  br_f (nI_pos (by omega)) (br_t (nI_lt (b := 6) hf (by omega)) H)
/-- create: a file that isn't there -/
theorem nt_create {post : Int32 → St2 → Prop} {ch cd nu sg : Int32} {a1 a2 a3 a4 a5 a6 a7 a8 a9 a10 a11 a12 a13 a14 : Nat → Int32} {Kn Kl Kp : Nat → nt_K} {Yn Yl Yp : Nat → nt_Y} {N c : Nat} {q : Option (Nat × Nat)} {yg : Nat → Int32}
    (hI : nt_I Kn Kl Kp Yn Yl Yp N c q yg ch cd nu sg a1 a2 a3 a4 a5 a6 a7 a8 a9 a10 a11 a12 a13 a14) {f : Nat} (hf : f < 6) (hy : Yn f = none) (cc : Nat → Int32) {Yn' : Nat → nt_Y} (hY : Yn' f = some (0, cc)) (hY' : ∀ h, h ≠ f → Yn' h = Yn h)
    {yg' : Nat → Int32} (hg1 : yg' f = 1) (hg2 : ∀ h, h ≠ f → yg' h = yg h)
    (H : ∀ Kn' (dh dd du dg : Int32) (d1 d2 d3 d4 d5 d6 d7 d8 d9 d10 d11 d12 d13 d14 : Nat → Int32), nt_I Kn' Kl Kp Yn' Yl Yp N c q yg' dh dd du dg d1 d2 d3 d4 d5 d6 d7 d8 d9 d10 d11 d12 d13 d14 → post 0 (dh, dd, du, dg, d1, d2, d3, d4, d5, d6, d7, d8, d9, d10, d11, d12, d13, d14)) : wpX_create post (ch, cd, nu, sg, a1, a2, a3, a4, a5, a6, a7, a8, a9, a10, a11, a12, a13, a14) (nI f) := by
  have hn : nt_sl a1 a3 a4 a11 Kn Yn := hI.2.2.1.1
  have hf0 := hn f hf
  rw [hy] at hf0
  have ef : (nI f).toNatClampNeg = f := nI_clamp (by omega)
  unfold wpX_create
  refine nt_bad hf ?_
  refine br_t rfl ⟨pk_in f 6 hf, br_t (by rw [ef]; exact hf0) ?_⟩
  refine nt_wn hI hf 0 (0, fun _ => 0) none rfl (fun x hx => absurd hx (List.not_mem_nil)) (fun r g b4 b14 hr hg hb hc hq h4 _ => ⟨pk_in f 6 hf, nm_r (by rw [ef]) (H (nt_up Kn f (r, fun _ => 0)) _ _ _ _ _ _ _ _ _ _ _ _ _ _ _ _ _ _ ?_)⟩)
  refine nt_I_node hI (f := f) (fun x => x = r) ?_ (fun e => hc e.symm) (fun b hb' e => hq (e ▸ hb')) ?_ (k' := (r, fun _ => 0)) (y' := some (0, cc)) ?_ ?_ (fun h e => pk_un e) hY hY' ?_ ⟨g, hg, rfl⟩
  · intro x hx h hh
    subst hx
    exact ⟨fun _ => (hb h hh).1, (hb h hh).2⟩
  · intro x hx
    exact ⟨rfl, pk_un hx, pk_un hx, pk_un hx, fun i hi => h4 x i hi hx⟩
  · exact ⟨pk_us, hr, Nat.zero_le 4, pk_us, fun i hi => absurd hi (Nat.not_lt_zero i)⟩
  · intro z
    rcases nt_bl_some.mp z with e | ⟨i, hi, _⟩
    · exact hc e.symm
    · exact Nat.not_lt_zero i hi
  · intro h hh
    by_cases e : h = f
    · rw [e, pk_us, hg1]
    · rw [pk_un e, hg2 h e]
      exact hI.2.2.2.2.2.2.2 h hh
/-- create: a file that is there -/
theorem nt_create3 {post : Int32 → St2 → Prop} {ch cd nu sg : Int32} {a1 a2 a3 a4 a5 a6 a7 a8 a9 a10 a11 a12 a13 a14 : Nat → Int32} {Kn Kl Kp : Nat → nt_K} {Yn Yl Yp : Nat → nt_Y} {N c : Nat} {q : Option (Nat × Nat)} {yg : Nat → Int32}
    (hI : nt_I Kn Kl Kp Yn Yl Yp N c q yg ch cd nu sg a1 a2 a3 a4 a5 a6 a7 a8 a9 a10 a11 a12 a13 a14) {f s : Nat} {cc : Nat → Int32} (hf : f < 6) (hy : Yn f = some (s, cc)) (H : post (-3) (ch, cd, nu, sg, a1, a2, a3, a4, a5, a6, a7, a8, a9, a10, a11, a12, a13, a14)) : wpX_create post (ch, cd, nu, sg, a1, a2, a3, a4, a5, a6, a7, a8, a9, a10, a11, a12, a13, a14) (nI f) := by
  have hn : nt_sl a1 a3 a4 a11 Kn Yn := hI.2.2.1.1
  have hf0 := hn f hf
  rw [hy] at hf0
  obtain ⟨h1, h2, _⟩ := hf0
  have ef : (nI f).toNatClampNeg = f := nI_clamp (by omega)
  unfold wpX_create
  refine nt_bad hf ?_
  exact br_t rfl ⟨pk_in f 6 hf, br_f (by rw [ef, h1]; exact nt_nm1 (by omega)) H⟩
theorem nt_w73 {post : Int32 → St2 → Prop} {ch cd nu sg : Int32} {a1 a2 a3 a4 a5 a6 a7 a8 a9 a10 a11 a12 a13 a14 : Nat → Int32} {Kn Kl Kp : Nat → nt_K} {Yn Yl Yp : Nat → nt_Y} {N c : Nat} {q : Option (Nat × Nat)} {yg : Nat → Int32}
    (hI : nt_I Kn Kl Kp Yn Yl Yp N c q yg ch cd nu sg a1 a2 a3 a4 a5 a6 a7 a8 a9 a10 a11 a12 a13 a14) {f i s s' : Nat} {cc cc' : Nat → Int32} {w v : Int32} (hf : f < 6) (hi : i < 4) (hs' : s' ≤ 4) (hii : i < s') (hj : ∀ j, j < s' → j ≠ i → j < s) (hy : Yn f = some (s, cc))
    {Yn' : Nat → nt_Y} (hY : Yn' f = some (s', cc')) (hY' : ∀ h, h ≠ f → Yn' h = Yn h) (hw : cc' i = w) (hcc : ∀ j, j < s' → j ≠ i → cc' j = cc j) (hv : v = a11 f)
    (H : ∀ Kn' (dh dd du dg : Int32) (d1 d2 d3 d4 d5 d6 d7 d8 d9 d10 d11 d12 d13 d14 : Nat → Int32), nt_I Kn' Kl Kp Yn' Yl Yp N c q yg dh dd du dg d1 d2 d3 d4 d5 d6 d7 d8 d9 d10 d11 d12 d13 d14 → post (nI s') (dh, dd, du, dg, d1, d2, d3, d4, d5, d6, d7, d8, d9, d10, d11, d12, d13, d14)) : wX_write_73 post (nI f) (nI i) w v (nI s') ch cd nu sg a1 a2 a3 a4 a5 a6 a7 a8 a9 a10 a11 a12 a13 a14 := by
  have hn : nt_sl a1 a3 a4 a11 Kn Yn := hI.2.2.1.1
  have hcb := hI.2.2.2.2.1
  have hf0 := hn f hf
  rw [hy] at hf0
  have ef : (nI f).toNatClampNeg = f := nI_clamp (by omega)
  subst hv
  refine nt_wn hI hf s' (Kn f) (some (s, cc)) hf0 (fun x hx => ⟨f, hf, by rw [hy]; exact hx⟩) (fun r g b4 b14 hr hg hb hc hq h4 h4' => ?_)
  obtain ⟨o1, o2, o3, o4, o5⟩ := hf0
  have er : (nI r).toNatClampNeg = r := nI_clamp (by omega)
  refine ⟨pk_in f 6 hf, nm_r (by rw [ef]; exact pk_us) ⟨pk_in r 128 hr, nm_r (by rw [er]) ⟨pk_in (r * 4 + i) 512 (by omega) (hx := nt_ix r i), nm_r (by rw [nt_ixc hr hi]) ?_⟩⟩⟩
  have hbr : ∀ j, j < s → (Kn f).2 j ≠ r := by
    intro j hj e
    exact (hb f hf).1 (by rw [hy]; exact nt_bl_some.mpr (Or.inr ⟨j, hj, e.symm⟩))
  have hcj : ∀ j, j < s → (Kn f).2 j ≠ c := by
    intro j hj e
    exact (hcb f hf).1 (by rw [hy]; exact nt_bl_some.mpr (Or.inr ⟨j, hj, e.symm⟩))
  have hI2 : nt_I (nt_up Kn f (r, nt_up (Kn f).2 i r)) Kl Kp (nt_up Yn f (some (s', nt_up cc i (a1 r)))) Yl Yp N c q yg ch cd nu (nI g) a1 (upd a2 r (nI f)) (upd (upd a3 r (nI s')) r (nI s')) (upd b4 (r * 4 + i) (nI r)) (upd a5 r (-1)) a6 a7 a8 a9 a10 (upd a11 f (nI r)) a12 a13 b14 := by
    refine nt_I_node hI (f := f) (fun x => x = r) ?_ (fun e => hc e.symm) (fun b hb' e => hq (e ▸ hb')) ?_ (y' := some (s', nt_up cc i (a1 r))) ?_ ?_ (fun h e => pk_un e) nt_ups (fun h e => nt_upn e) hI.2.2.2.2.2.2.2 ⟨g, hg, rfl⟩
    · intro x hx h hh
      subst hx
      exact ⟨fun _ => (hb h hh).1, (hb h hh).2⟩
    · intro x hx
      have hx' : x ≠ r := hx
      refine ⟨rfl, pk_un hx, by rw [pk_un hx, pk_un hx], pk_un hx, fun j hj => ?_⟩
      rw [pk_un (by omega)]
      exact h4 x j hj hx
    · refine ⟨pk_us, hr, hs', pk_us, fun j hj' => ?_⟩
      by_cases e : j = i
      · rw [e]
        show nt_up (Kn f).2 i r i < 128 ∧ upd b4 (r * 4 + i) (nI r) (r * 4 + i) = nI (nt_up (Kn f).2 i r i) ∧ a1 (nt_up (Kn f).2 i r i) = nt_up cc i (a1 r) i
        rw [nt_ups, nt_ups, pk_us]
        exact ⟨hr, rfl, rfl⟩
      · show nt_up (Kn f).2 i r j < 128 ∧ upd b4 (r * 4 + i) (nI r) (r * 4 + j) = nI (nt_up (Kn f).2 i r j) ∧ a1 (nt_up (Kn f).2 i r j) = nt_up cc i (a1 r) j
        rw [nt_upn e, nt_upn e, pk_un (by omega)]
        exact ⟨(o5 j (hj j hj' e)).1, h4' j (hj j hj' e), (o5 j (hj j hj' e)).2.2⟩
    · intro z
      rcases nt_bl_some.mp z with e | ⟨j, hj', e⟩
      · exact hc e.symm
      · by_cases ej : j = i
        · have e' : c = nt_up (Kn f).2 i r j := e
          rw [ej, nt_ups] at e'
          exact hc e'.symm
        · have e' : c = nt_up (Kn f).2 i r j := e
          rw [nt_upn ej] at e'
          exact hcj j (hj j hj' ej) e'.symm
  refine nt_freshI hI2 (fun r2 g2 b14' hr2 hg2 hb2 hc2 hq2 => ?_)
  have er2 : (nI r2).toNatClampNeg = r2 := nI_clamp (by omega)
  refine ⟨pk_in r2 128 hr2, nm_r (by rw [er2]) ⟨pk_in (r * 4 + i) 512 (by omega) (hx := nt_ix r i), nm_r (by rw [nt_ixc hr hi]) (H (nt_up (nt_up Kn f (r, nt_up (Kn f).2 i r)) f (r, nt_up (Kn f).2 i r2)) _ _ _ _ _ _ _ _ _ _ _ _ _ _ _ _ _ _ ?_)⟩⟩
  have hf2 := (hb2 f hf).1
  rw [nt_ups, nt_ups] at hf2
  have hr2j : ∀ j, j < s' → j ≠ i → (Kn f).2 j ≠ r2 := by
    intro j hj' e e'
    refine hf2 (nt_bl_some.mpr (Or.inr ⟨j, hj', ?_⟩))
    show r2 = nt_up (Kn f).2 i r j
    rw [nt_upn e]
    exact e'.symm
  refine nt_I_node hI2 (f := f) (fun x => x = r ∨ x = r2) ?_ (fun e => e.elim (fun e => hc e.symm) (fun e => hc2 e.symm)) (fun b hb' e => e.elim (fun e => hq (e ▸ hb')) (fun e => hq2 (e ▸ hb'))) ?_ (k' := (r, nt_up (Kn f).2 i r2)) (y' := some (s', cc')) ?_ ?_ (fun h e => rfl) hY (fun h e => (hY' h e).trans (nt_upn e).symm) hI.2.2.2.2.2.2.2 ⟨g2, hg2, rfl⟩
  · intro x hx h hh
    rcases hx with e | e
    · subst e
      refine ⟨fun e => ?_, (hb h hh).2⟩
      rw [nt_upn e, nt_upn e]
      exact (hb h hh).1
    · subst e
      exact ⟨fun _ => (hb2 h hh).1, (hb2 h hh).2⟩
  · intro x hx
    have hx1 : x ≠ r := fun e => hx (Or.inl e)
    have hx2 : x ≠ r2 := fun e => hx (Or.inr e)
    refine ⟨pk_un hx2, rfl, rfl, pk_un hx2, fun j hj => ?_⟩
    rw [pk_un (by omega)]
  · refine ⟨pk_us, hr, hs', pk_us, fun j hj' => ?_⟩
    show nt_up (Kn f).2 i r2 j < 128 ∧ upd (upd b4 (r * 4 + i) (nI r)) (r * 4 + i) (nI r2) (r * 4 + j) = nI (nt_up (Kn f).2 i r2 j) ∧ upd a1 r2 w (nt_up (Kn f).2 i r2 j) = cc' j
    by_cases e : j = i
    · rw [e, nt_ups, pk_us, pk_us]
      exact ⟨hr2, rfl, hw.symm⟩
    · rw [nt_upn e, pk_un (by omega), pk_un (by omega), pk_un (hr2j j hj' e), hcc j hj' e]
      exact ⟨(o5 j (hj j hj' e)).1, h4' j (hj j hj' e), (o5 j (hj j hj' e)).2.2⟩
  · intro z
    rcases nt_bl_some.mp z with e | ⟨j, hj', e⟩
    · exact hc e.symm
    · by_cases ej : j = i
      · have e' : c = nt_up (Kn f).2 i r2 j := e
        rw [ej, nt_ups] at e'
        exact hc2 e'.symm
      · have e' : c = nt_up (Kn f).2 i r2 j := e
        rw [nt_upn ej] at e'
        exact hcj j (hj j hj' ej) e'.symm
/-- write at a place that stands, or just behind the last -/
theorem nt_write {post : Int32 → St2 → Prop} {ch cd nu sg : Int32} {a1 a2 a3 a4 a5 a6 a7 a8 a9 a10 a11 a12 a13 a14 : Nat → Int32} {Kn Kl Kp : Nat → nt_K} {Yn Yl Yp : Nat → nt_Y} {N c : Nat} {q : Option (Nat × Nat)} {yg : Nat → Int32}
    (hI : nt_I Kn Kl Kp Yn Yl Yp N c q yg ch cd nu sg a1 a2 a3 a4 a5 a6 a7 a8 a9 a10 a11 a12 a13 a14) {f i s s' : Nat} {cc cc' : Nat → Int32} {w : Int32} (hf : f < 6) (hi : i < 4) (his : i ≤ s) (hs4 : s ≤ 4) (hs' : s' = if i = s then i + 1 else s) (hy : Yn f = some (s, cc))
    {Yn' : Nat → nt_Y} (hY : Yn' f = some (s', cc')) (hY' : ∀ h, h ≠ f → Yn' h = Yn h) (hw : cc' i = w) (hcc : ∀ j, j < s' → j ≠ i → cc' j = cc j)
    (H : ∀ Kn' (dh dd du dg : Int32) (d1 d2 d3 d4 d5 d6 d7 d8 d9 d10 d11 d12 d13 d14 : Nat → Int32), nt_I Kn' Kl Kp Yn' Yl Yp N c q yg dh dd du dg d1 d2 d3 d4 d5 d6 d7 d8 d9 d10 d11 d12 d13 d14 → post (nI s') (dh, dd, du, dg, d1, d2, d3, d4, d5, d6, d7, d8, d9, d10, d11, d12, d13, d14)) : wpX_write post (ch, cd, nu, sg, a1, a2, a3, a4, a5, a6, a7, a8, a9, a10, a11, a12, a13, a14) (nI f) (nI i) w := by
  have hn : nt_sl a1 a3 a4 a11 Kn Yn := hI.2.2.1.1
  have hf0 := hn f hf
  rw [hy] at hf0
  obtain ⟨o1, o2, o3, o4, o5⟩ := hf0
  have ef : (nI f).toNatClampNeg = f := nI_clamp (by omega)
  have ek : (nI (Kn f).1).toNatClampNeg = (Kn f).1 := nI_clamp (by omega)
  unfold wpX_write
  refine nt_bad hf ?_
  refine br_t rfl ⟨pk_in f 6 hf, nm_r (by rw [ef]; exact o1) (br_f (nt_nm1 (by omega)) (br_f (nI_pos (by omega)) ⟨pk_in _ 128 o2, ?_⟩))⟩
  rw [ek, o4]
  refine br_f (nI_nlt his (by omega)) (br_f (fun z => ?_) ⟨pk_in _ 128 o2, pk_eq i s (fun z => ?_) (fun z => ⟨pk_in _ 128 o2, ?_⟩)⟩)
  · have := (nI_eq (a := i) (b := 4) (by omega) (by omega)).mp z
    omega
  · rw [if_pos z] at hs'
    subst hs'
    rw [nI_1]
    exact nt_w73 hI hf hi (by omega) (by omega) (by omega) hy hY hY' hw hcc o1.symm H
  · rw [if_neg z] at hs'
    subst hs'
    exact nt_w73 hI hf hi hs4 (by omega) (by omega) hy hY hY' hw hcc o1.symm H
end
section
/-- a pack is written with the files as they are now -/
theorem nt_wp {post : St2 → Prop} {ch cd nu sg : Int32} {a1 a2 a3 a4 a5 a6 a7 a8 a9 a10 a11 a12 a13 a14 : Nat → Int32} {Kn : Nat → nt_K} {Yn : Nat → nt_Y} {N : Nat} (hsg : ∃ g, g < 16 ∧ sg = nI g) (hN : nu = nI N) (hN2 : N + 1 < 1000)
    (hn : nt_sl a1 a3 a4 a11 Kn Yn) (hl : ∀ h, h < 6 → a12 h = a11 h) (h7 : a7 (N % 2) = nI N) (h8 : a8 (N % 2) = nI N) (hy : ∀ h, h < 6 → a13 h = 0)
    (H : ∀ c (dh dd du dg : Int32) (d1 d2 d3 d4 d5 d6 d7 d8 d9 d10 d11 d12 d13 d14 : Nat → Int32), nt_I Kn Kn Kn Yn Yn Yn (N + 1) c none (fun _ => 0) dh dd du dg d1 d2 d3 d4 d5 d6 d7 d8 d9 d10 d11 d12 d13 d14 → post (dh, dd, du, dg, d1, d2, d3, d4, d5, d6, d7, d8, d9, d10, d11, d12, d13, d14)) : wpX_writePack post (ch, cd, nu, sg, a1, a2, a3, a4, a5, a6, a7, a8, a9, a10, a11, a12, a13, a14) := by
  subst hN
  have e1 : nI (N + 1) &&& 1 = nI ((N + 1) % 2) := nt_par hN2
  have e2 : (nI ((N + 1) % 2)).toNatClampNeg = (N + 1) % 2 := nI_clamp (by omega)
  refine nm_r (nI_1 N) (nm_r e1 ⟨pk_in ((N + 1) % 2) 2 (by omega), nm_r (by rw [e2]) ?_⟩)
  refine pk_loop (fun n i b9 => wX_writePack_29 post (nI ((N + 1) % 2)) ch cd (nI (N + 1)) sg n (nI i) a1 a2 a3 a4 a5 a6 (upd a7 ((N + 1) % 2) (nI (N + 1))) a8 b9 a10 a11 a12 a13 a14) (fun i b9 => ∀ h, h < i → b9 ((N + 1) % 2 * 6 + h) = a12 h) 6 0 a9 (by omega) (fun h hh => absurd hh (by omega)) ?_ ?_
  · intro n b9 h
    refine br_t (nI_le (a := 6) (b := 6) (by omega) (by omega)) ?_
    have hl' : nt_sl a1 a3 a4 a12 Kn Yn := fun j hj => by rw [hl j hj]; exact hn j hj
    have hp : nt_sl a1 a3 a4 (fun h => b9 ((N + 1) % 2 * 6 + h)) Kn Yn := fun j hj => by
      show nt_nd a1 a3 a4 (b9 ((N + 1) % 2 * 6 + j)) (Kn j) (Yn j)
      rw [h j hj]
      exact hl' j hj
    refine nt_fresh (N := N + 1) (CH := []) (CL := []) rfl hN2 hn hl' hp (Or.inl ⟨rfl, rfl⟩) (Or.inl ⟨rfl, rfl⟩) hsg (fun r g b14 hr hg hb _ _ => ⟨pk_in ((N + 1) % 2) 2 (by omega), nm_r (by rw [e2]) ⟨pk_in ((N + 1) % 2) 2 (by omega), nm_r (by rw [e2]) (H r _ _ _ _ _ _ _ _ _ _ _ _ _ _ _ _ _ _ ?_)⟩⟩)
    refine ⟨⟨g, hg, rfl⟩, ⟨by omega, hN2, rfl⟩, ⟨hn, hl', hp⟩, ⟨hr, rfl, pk_us⟩, hb, ⟨pk_us, pk_us, ?_, ?_⟩, ⟨rfl, pk_us, fun j hj => (h j hj).symm⟩, hy⟩
    · rw [pk_un (by omega), show 1 - (N + 1) % 2 = N % 2 by omega]
      exact h7
    · rw [pk_un (by omega), show 1 - (N + 1) % 2 = N % 2 by omega]
      exact h8
  · intro n i b9 hi h hw
    have e3 : nI ((N + 1) % 2) * 6 + nI i = nI ((N + 1) % 2 * 6 + i) := nt_ix6 _ _
    refine br_f (nI_ge (b := 6) hi (by omega)) ⟨pk_in i 6 hi, pk_in ((N + 1) % 2 * 6 + i) 12 (by omega) (hx := e3), nm_r (by rw [e3, nI_clamp (by omega), nI_clamp (by omega)]) (nm_r (nI_1 i) (hw _ ?_))⟩
    intro j hj
    by_cases e : j = i
    · rw [e, pk_us]
    · rw [pk_un (by omega)]
      exact h j (by omega)
theorem nt_cp {post : St2 → Prop} {ch cd nu sg : Int32} {a1 a2 a3 a4 a5 a6 a7 a8 a9 a10 a11 a12 a13 a14 : Nat → Int32} {Kn : Nat → nt_K} {Yn : Nat → nt_Y} {N : Nat} (hsg : ∃ g, g < 16 ∧ sg = nI g) (hN : nu = nI N) (hN2 : N + 1 < 1000)
    (hn : nt_sl a1 a3 a4 a11 Kn Yn) (h7 : a7 (N % 2) = nI N) (h8 : a8 (N % 2) = nI N)
    (H : ∀ c (dh dd du dg : Int32) (d1 d2 d3 d4 d5 d6 d7 d8 d9 d10 d11 d12 d13 d14 : Nat → Int32), nt_I Kn Kn Kn Yn Yn Yn (N + 1) c none (fun _ => 0) dh dd du dg d1 d2 d3 d4 d5 d6 d7 d8 d9 d10 d11 d12 d13 d14 → post (dh, dd, du, dg, d1, d2, d3, d4, d5, d6, d7, d8, d9, d10, d11, d12, d13, d14)) : wpX_checkpoint post (ch, cd, nu, sg, a1, a2, a3, a4, a5, a6, a7, a8, a9, a10, a11, a12, a13, a14) := by
  refine pk_loop (fun n i (s : (Nat → Int32) × (Nat → Int32)) => wX_checkpoint_2 post ch cd nu sg n (nI i) a1 a2 a3 a4 a5 a6 a7 a8 a9 a10 a11 s.1 s.2 a14) (fun i s => ∀ h, h < i → s.1 h = a11 h ∧ s.2 h = 0) 6 0 (a12, a13) (by omega) (fun h hh => absurd hh (by omega)) ?_ ?_
  · intro n s h
    exact br_t (nI_le (a := 6) (b := 6) (by omega) (by omega)) (nt_wp hsg hN hN2 hn (fun j hj => (h j hj).1) h7 h8 (fun j hj => (h j hj).2) H)
  · intro n i s hi h hw
    have ei : (nI i).toNatClampNeg = i := nI_clamp (by omega)
    refine br_f (nI_ge (b := 6) hi (by omega)) ⟨pk_in i 6 hi, pk_in i 6 hi, nm_r (by rw [ei]) ⟨pk_in i 6 hi, nm_r (by rw [ei]) (nm_r (nI_1 i) (hw (_, _) ?_))⟩⟩
    intro j hj
    show upd s.1 i (a11 i) j = a11 j ∧ upd s.2 i 0 j = 0
    by_cases e : j = i
    · rw [e, pk_us, pk_us]
      exact ⟨rfl, rfl⟩
    · rw [pk_un e, pk_un e]
      exact h j (by omega)
theorem nt_cpI {post : St2 → Prop} {ch cd nu sg : Int32} {a1 a2 a3 a4 a5 a6 a7 a8 a9 a10 a11 a12 a13 a14 : Nat → Int32} {Kn Kl Kp : Nat → nt_K} {Yn Yl Yp : Nat → nt_Y} {N c : Nat} {q : Option (Nat × Nat)} {yg : Nat → Int32}
    (hI : nt_I Kn Kl Kp Yn Yl Yp N c q yg ch cd nu sg a1 a2 a3 a4 a5 a6 a7 a8 a9 a10 a11 a12 a13 a14) (hN2 : N + 1 < 1000)
    (H : ∀ c (dh dd du dg : Int32) (d1 d2 d3 d4 d5 d6 d7 d8 d9 d10 d11 d12 d13 d14 : Nat → Int32), nt_I Kn Kn Kn Yn Yn Yn (N + 1) c none (fun _ => 0) dh dd du dg d1 d2 d3 d4 d5 d6 d7 d8 d9 d10 d11 d12 d13 d14 → post (dh, dd, du, dg, d1, d2, d3, d4, d5, d6, d7, d8, d9, d10, d11, d12, d13, d14)) : wpX_checkpoint post (ch, cd, nu, sg, a1, a2, a3, a4, a5, a6, a7, a8, a9, a10, a11, a12, a13, a14) := by
  obtain ⟨h1, ⟨_, _, h23⟩, ⟨h31, _, _⟩, _, _, ⟨h61, h62, _, _⟩, _, _⟩ := hI
  exact nt_cp h1 h23 hN2 h31 h61 h62 H
/-- how many files are there -/
def nt_cnt (Y : Nat → nt_Y) : Nat → Nat
  | 0 => 0
  | n + 1 => nt_cnt Y n + (match Y n with | none => 0 | some _ => 1)
theorem nt_cnt_le (Y : Nat → nt_Y) (n : Nat) : nt_cnt Y n ≤ n := by
  induction n with
  | zero => exact Nat.le_refl 0
  | succ n ih =>
    show nt_cnt Y n + (match Y n with | none => 0 | some _ => 1) ≤ n + 1
    cases Y n with
    | none => exact Nat.le_succ_of_le ih
    | some p => exact Nat.succ_le_succ ih
theorem nt_count {post : Int32 → Prop} {ch cd nu sg : Int32} {a1 a2 a3 a4 a5 a6 a7 a8 a9 a10 a11 a12 a13 a14 : Nat → Int32} {Kn : Nat → nt_K} {Yn : Nat → nt_Y} (hn : nt_sl a1 a3 a4 a11 Kn Yn) (H : post (nI (nt_cnt Yn 6))) : wpX_count post (ch, cd, nu, sg, a1, a2, a3, a4, a5, a6, a7, a8, a9, a10, a11, a12, a13, a14) := by
  refine pk_loop (fun n i x => wX_count_4 post ch cd nu sg a1 a2 a3 a4 a5 a6 a7 a8 a9 a10 a11 a12 a13 a14 n x (nI i)) (fun i x => x = nI (nt_cnt Yn i)) 6 0 0 (by omega) rfl ?_ ?_
  · intro n x h
    subst h
    exact br_t (nI_le (a := 6) (b := 6) (by omega) (by omega)) H
  · intro n i x hi h hw
    subst h
    have ei : (nI i).toNatClampNeg = i := nI_clamp (by omega)
    refine br_f (nI_ge (b := 6) hi (by omega)) ⟨pk_in i 6 hi, ?_⟩
    rw [ei]
    have hh := hn i hi
    cases hy : Yn i with
    | none =>
      rw [hy] at hh
      refine br_t hh (nm_r (nI_1 i) (hw _ ?_))
      show nI (nt_cnt Yn i) = nI (nt_cnt Yn i + (match Yn i with | none => 0 | some _ => 1))
      rw [hy]
      rfl
    | some p =>
      rw [hy] at hh
      have h1 : a11 i = nI (Kn i).1 := hh.1
      have h2 : (Kn i).1 < 128 := hh.2.1
      refine br_f (by rw [h1]; exact nt_nm1 (by omega)) (nm_r (nI_1 _) (nm_r (nI_1 i) (hw _ ?_)))
      show nI (nt_cnt Yn i + 1) = nI (nt_cnt Yn i + (match Yn i with | none => 0 | some _ => 1))
      rw [hy]
theorem nt_sync {post : Int32 → St2 → Prop} {ch cd nu sg : Int32} {a1 a2 a3 a4 a5 a6 a7 a8 a9 a10 a11 a12 a13 a14 : Nat → Int32} {Kn Kl Kp : Nat → nt_K} {Yn Yl Yp : Nat → nt_Y} {N c : Nat} {q : Option (Nat × Nat)} {yg : Nat → Int32}
    (hI : nt_I Kn Kl Kp Yn Yl Yp N c q yg ch cd nu sg a1 a2 a3 a4 a5 a6 a7 a8 a9 a10 a11 a12 a13 a14) (hN2 : N + 1 < 1000)
    (H : ∀ c (dh dd du dg : Int32) (d1 d2 d3 d4 d5 d6 d7 d8 d9 d10 d11 d12 d13 d14 : Nat → Int32), nt_I Kn Kn Kn Yn Yn Yn (N + 1) c none (fun _ => 0) dh dd du dg d1 d2 d3 d4 d5 d6 d7 d8 d9 d10 d11 d12 d13 d14 → post (nI (nt_cnt Yn 6)) (dh, dd, du, dg, d1, d2, d3, d4, d5, d6, d7, d8, d9, d10, d11, d12, d13, d14)) : wpX_sync post (ch, cd, nu, sg, a1, a2, a3, a4, a5, a6, a7, a8, a9, a10, a11, a12, a13, a14) := by
  unfold wpX_sync
  refine nt_cpI hI hN2 (fun c dh dd du dg d1 d2 d3 d4 d5 d6 d7 d8 d9 d10 d11 d12 d13 d14 hI' => ?_)
  exact nt_count hI'.2.2.1.1 (H c dh dd du dg d1 d2 d3 d4 d5 d6 d7 d8 d9 d10 d11 d12 d13 d14 hI')
/-- fsync of a young file: a checkpoint -/
theorem nt_fsyncY {post : Int32 → St2 → Prop} {ch cd nu sg : Int32} {a1 a2 a3 a4 a5 a6 a7 a8 a9 a10 a11 a12 a13 a14 : Nat → Int32} {Kn Kl Kp : Nat → nt_K} {Yn Yl Yp : Nat → nt_Y} {N c : Nat} {q : Option (Nat × Nat)} {yg : Nat → Int32}
    (hI : nt_I Kn Kl Kp Yn Yl Yp N c q yg ch cd nu sg a1 a2 a3 a4 a5 a6 a7 a8 a9 a10 a11 a12 a13 a14) (hN2 : N + 1 < 1000) {f s : Nat} {cc : Nat → Int32} (hf : f < 6) (hy : Yn f = some (s, cc)) (hg : yg f = 1)
    (H : ∀ c (dh dd du dg : Int32) (d1 d2 d3 d4 d5 d6 d7 d8 d9 d10 d11 d12 d13 d14 : Nat → Int32), nt_I Kn Kn Kn Yn Yn Yn (N + 1) c none (fun _ => 0) dh dd du dg d1 d2 d3 d4 d5 d6 d7 d8 d9 d10 d11 d12 d13 d14 → post 1 (dh, dd, du, dg, d1, d2, d3, d4, d5, d6, d7, d8, d9, d10, d11, d12, d13, d14)) : wpX_fsync post (ch, cd, nu, sg, a1, a2, a3, a4, a5, a6, a7, a8, a9, a10, a11, a12, a13, a14) (nI f) := by
  have hn : nt_sl a1 a3 a4 a11 Kn Yn := hI.2.2.1.1
  have hf0 := hn f hf
  rw [hy] at hf0
  obtain ⟨h1, h2, _⟩ := hf0
  have ef : (nI f).toNatClampNeg = f := nI_clamp (by omega)
  have h13 := hI.2.2.2.2.2.2.2 f hf
  unfold wpX_fsync
  refine nt_bad hf ?_
  refine br_t rfl ⟨pk_in f 6 hf, nm_r (by rw [ef, h1]) (br_f (nt_nm1 (by omega)) ⟨pk_in f 6 hf, br_f (by rw [ef, h13, hg]; decide) ?_⟩)⟩
  exact nt_cpI hI hN2 H
theorem nt_init {post : St2 → Prop} (H : ∀ K c (dh dd du dg : Int32) (d1 d2 d3 d4 d5 d6 d7 d8 d9 d10 d11 d12 d13 d14 : Nat → Int32), nt_I K K K (fun _ => none) (fun _ => none) (fun _ => none) 1 c none (fun _ => 0) dh dd du dg d1 d2 d3 d4 d5 d6 d7 d8 d9 d10 d11 d12 d13 d14 → post (dh, dd, du, dg, d1, d2, d3, d4, d5, d6, d7, d8, d9, d10, d11, d12, d13, d14)) : wpX_init post 14 1316 (0, 0, 0, 0) := by
  refine ⟨by decide, by decide, by decide, by decide, by decide, by decide, by decide, by decide, by decide, by decide, by decide, by decide, by decide, by decide, by decide, by decide, by decide, by decide, by decide, by decide, by decide, by decide, by decide, by decide, by decide, by decide, by decide, by decide, ?_⟩
  refine pk_loop (fun n i b5 => wX_init_122 post 14 1316 14 1316 0 0 0 0 n (nI i) (fun _ => 0) (fun _ => 0) (fun _ => 0) (fun _ => 0) b5 (fun _ => 0) (fun _ => 0) (fun _ => 0) (fun _ => 0) (fun _ => 0) (fun _ => 0) (fun _ => 0) (fun _ => 0) (fun _ => 0)) (fun _ _ => True) 128 0 (fun _ => 0) (by omega) trivial ?_ ?_
  · intro n b5 _
    refine br_t (nI_le (a := 128) (b := 128) (by omega) (by omega)) ?_
    refine pk_loop (fun n i (s : (Nat → Int32) × (Nat → Int32)) => wX_init_144 post 14 1316 14 1316 0 0 0 0 n (nI i) (fun _ => 0) (fun _ => 0) (fun _ => 0) (fun _ => 0) b5 (fun _ => 0) (fun _ => 0) (fun _ => 0) (fun _ => 0) (fun _ => 0) s.1 s.2 (fun _ => 0) (fun _ => 0)) (fun i s => ∀ h, h < i → s.1 h = -1) 6 0 ((fun _ => 0), (fun _ => 0)) (by omega) (fun h hh => absurd hh (by omega)) ?_ ?_
    · intro n s h
      refine br_t (nI_le (a := 6) (b := 6) (by omega) (by omega)) ?_
      exact nt_cp (N := 0) (Kn := fun _ => (0, fun _ => 0)) (Yn := fun _ => none) ⟨0, by decide, rfl⟩ rfl (by decide) (fun j hj => h j hj) rfl rfl (fun c dh dd du dg d1 d2 d3 d4 d5 d6 d7 d8 d9 d10 d11 d12 d13 d14 hI => H _ c dh dd du dg d1 d2 d3 d4 d5 d6 d7 d8 d9 d10 d11 d12 d13 d14 hI)
    · intro n i s hi h hw
      have ei : (nI i).toNatClampNeg = i := nI_clamp (by omega)
      refine br_f (nI_ge (b := 6) hi (by omega)) ⟨pk_in i 6 hi, nm_r (by rw [ei]) ⟨pk_in i 6 hi, nm_e (nm_r (nI_1 i) (hw (_, _) ?_))⟩⟩
      intro j hj
      show upd s.1 i (-1) j = -1
      by_cases e : j = i
      · rw [e, pk_us]
      · rw [pk_un e]
        exact h j (by omega)
  · intro n i b5 hi _ hw
    exact br_f (nI_ge (b := 128) hi (by omega)) ⟨pk_in i 128 hi, nm_e (nm_r (nI_1 i) (hw _ trivial))⟩
end
section
/-- fsync of a file that isn't young, the chain empty: one node on the chain -/
theorem nt_f53 {post : Int32 → St2 → Prop} {ch cd nu sg : Int32} {a1 a2 a3 a4 a5 a6 a7 a8 a9 a10 a11 a12 a13 a14 : Nat → Int32} {Kn Kl Kp : Nat → nt_K} {Yn Yl Yp : Nat → nt_Y} {N c : Nat} {yg : Nat → Int32}
    (hI : nt_I Kn Kl Kp Yn Yl Yp N c none yg ch cd nu sg a1 a2 a3 a4 a5 a6 a7 a8 a9 a10 a11 a12 a13 a14) {f s : Nat} {cc : Nat → Int32} (hf : f < 6) (hy : Yn f = some (s, cc)) {Yl' : Nat → nt_Y} (hY : Yl' f = some (s, cc)) (hY' : ∀ h, h ≠ f → Yl' h = Yl h)
    (H : ∀ Kn' Kl' c' q' (dh dd du dg : Int32) (d1 d2 d3 d4 d5 d6 d7 d8 d9 d10 d11 d12 d13 d14 : Nat → Int32), nt_I Kn' Kl' Kp Yn Yl' Yp N c' q' yg dh dd du dg d1 d2 d3 d4 d5 d6 d7 d8 d9 d10 d11 d12 d13 d14 → post 0 (dh, dd, du, dg, d1, d2, d3, d4, d5, d6, d7, d8, d9, d10, d11, d12, d13, d14)) : wX_fsync_53 post (nI f) (nI (Kn f).1) ch cd nu sg a1 a2 a3 a4 a5 a6 a7 a8 a9 a10 a11 a12 a13 a14 := by
  obtain ⟨h1, ⟨h21, h22, h23⟩, ⟨h31, h32, h33⟩, ⟨h41, h42, h43⟩, h5, h6, ⟨h71, h72, h73⟩, h8⟩ := hI
  have hf0 := h31 f hf
  rw [hy] at hf0
  obtain ⟨o1, o2, o3, o4, o5⟩ := hf0
  have ef : (nI f).toNatClampNeg = f := nI_clamp (by omega)
  have ec : (nI c).toNatClampNeg = c := nI_clamp (by omega)
  have ek : (nI (Kn f).1).toNatClampNeg = (Kn f).1 := nI_clamp (by omega)
  have hkc : (Kn f).1 ≠ c := by
    intro e
    exact (h5 f hf).1 (by rw [hy]; exact nt_bl_some.mpr (Or.inl e.symm))
  subst h42 h71 h23
  refine ⟨pk_in c 128 h41, nm_r (by rw [ec]) ⟨pk_in _ 128 o2, pk_in c 128 h41, nm_r (by rw [ec, ek, o4]) ?_⟩⟩
  refine pk_loop (fun n i b4 => wX_fsync_80 post (nI f) (nI (Kn f).1) (nI c) (nI c) 0 (nI N) sg n (nI i) a1 (upd a2 c (nI f)) (upd a3 c (nI s)) b4 a5 a6 a7 a8 a9 a10 a11 a12 a13 a14) (fun i b4 => (∀ x j, j < 4 → x ≠ c → b4 (x * 4 + j) = a4 (x * 4 + j)) ∧ ∀ j, j < i → b4 (c * 4 + j) = a4 ((Kn f).1 * 4 + j)) 4 0 a4 (by omega) ⟨fun _ _ _ _ => rfl, fun j hj => absurd hj (by omega)⟩ ?_ ?_
  · intro n b4 h
    refine br_t (nI_le (a := 4) (b := 4) (by omega) (by omega)) ⟨pk_in f 6 hf, nm_r (by rw [ef]) ⟨pk_in f 6 hf, nm_r (by rw [ef]) ?_⟩⟩
    have hfr : ∀ {v : Int32} {k : nt_K} {y : nt_Y}, nt_nd a1 a3 a4 v k y → c ∉ nt_bl k y → nt_nd a1 (upd a3 c (nI s)) b4 v k y := by
      intro v k y hn hx
      refine nt_frame hn (fun x hm => ?_)
      have hx' : x ≠ c := fun z => hx (z ▸ hm)
      exact ⟨rfl, pk_un hx', fun i hi => h.1 x i hi hx'⟩
    have hnew : nt_nd a1 (upd a3 c (nI s)) b4 (nI c) (c, (Kn f).2) (some (s, cc)) :=
      ⟨rfl, h41, o3, pk_us, fun j hj => ⟨(o5 j hj).1, (h.2 j (by omega)).trans (o5 j hj).2.1, (o5 j hj).2.2⟩⟩
    have hn' : nt_sl a1 (upd a3 c (nI s)) b4 (upd a11 f (nI c)) (nt_up Kn f (c, (Kn f).2)) Yn := by
      intro j hj
      by_cases e : j = f
      · rw [e, pk_us, nt_ups, hy]
        exact hnew
      · rw [pk_un e, nt_upn e]
        exact hfr (h31 j hj) (h5 j hj).1
    have hl' : nt_sl a1 (upd a3 c (nI s)) b4 (upd a12 f (nI c)) (nt_up Kl f (c, (Kn f).2)) Yl' := by
      intro j hj
      by_cases e : j = f
      · rw [e, pk_us, nt_ups, hY]
        exact hnew
      · rw [pk_un e, nt_upn e, hY' j e]
        exact hfr (h32 j hj) (h5 j hj).2.1
    have hp' : nt_sl a1 (upd a3 c (nI s)) b4 (fun h => a9 (N % 2 * 6 + h)) Kp Yp := fun j hj => hfr (h33 j hj) (h5 j hj).2.2
    refine nt_fresh (N := N) (CH := [c]) (CL := []) rfl h22 hn' hl' hp' (Or.inr ⟨c, h41, rfl, rfl⟩) (Or.inl ⟨rfl, rfl⟩) h1 (fun r g b14 hr hg hb hc _ => ?_)
    have hrc : r ≠ c := fun e => hc (List.mem_singleton.mpr e)
    refine ⟨pk_in c 128 h41, nm_r (by rw [ec]) ⟨pk_in c 128 h41, nm_r (by rw [ec]) (nm_e (H (nt_up Kn f (c, (Kn f).2)) (nt_up Kl f (c, (Kn f).2)) r (some (c, f)) _ _ _ _ _ _ _ _ _ _ _ _ _ _ _ _ _ _ ?_))⟩⟩
    refine ⟨⟨g, hg, rfl⟩, ⟨h21, h22, rfl⟩, ⟨hn', hl', hp'⟩, ⟨hr, rfl, ?_⟩, hb, h6, ⟨by decide, h72, h41, fun e => hrc e.symm, pk_us, pk_us, hf, pk_us, pk_us, ?_⟩, h8⟩
    · rw [pk_un hrc, pk_us]
    · intro j hj e
      rw [pk_un e]
      exact h73 j hj
  · intro n i b4 hi h hw
    refine br_f (nI_ge (b := 4) hi (by omega)) ⟨pk_in ((Kn f).1 * 4 + i) 512 (by omega) (hx := nt_ix _ _), pk_in (c * 4 + i) 512 (by omega) (hx := nt_ix _ _), nm_r (by rw [nt_ixc o2 hi, nt_ixc h41 hi]) (nm_r (nI_1 i) (hw _ ⟨?_, ?_⟩))⟩
    · intro x j hj hx
      rw [pk_un (by omega)]
      exact h.1 x j hj hx
    · intro j hj
      by_cases e : j = i
      · rw [e, pk_us]
        exact h.1 _ i hi hkc
      · rw [pk_un (by omega)]
        exact h.2 j (by omega)
theorem nt_fsyncN {post : Int32 → St2 → Prop} {ch cd nu sg : Int32} {a1 a2 a3 a4 a5 a6 a7 a8 a9 a10 a11 a12 a13 a14 : Nat → Int32} {Kn Kl Kp : Nat → nt_K} {Yn Yl Yp : Nat → nt_Y} {N c : Nat} {yg : Nat → Int32}
    (hI : nt_I Kn Kl Kp Yn Yl Yp N c none yg ch cd nu sg a1 a2 a3 a4 a5 a6 a7 a8 a9 a10 a11 a12 a13 a14) {f s : Nat} {cc : Nat → Int32} (hf : f < 6) (hy : Yn f = some (s, cc)) (hg : yg f = 0) {Yl' : Nat → nt_Y} (hY : Yl' f = some (s, cc)) (hY' : ∀ h, h ≠ f → Yl' h = Yl h)
    (H : ∀ Kn' Kl' c' q' (dh dd du dg : Int32) (d1 d2 d3 d4 d5 d6 d7 d8 d9 d10 d11 d12 d13 d14 : Nat → Int32), nt_I Kn' Kl' Kp Yn Yl' Yp N c' q' yg dh dd du dg d1 d2 d3 d4 d5 d6 d7 d8 d9 d10 d11 d12 d13 d14 → post 0 (dh, dd, du, dg, d1, d2, d3, d4, d5, d6, d7, d8, d9, d10, d11, d12, d13, d14)) : wpX_fsync post (ch, cd, nu, sg, a1, a2, a3, a4, a5, a6, a7, a8, a9, a10, a11, a12, a13, a14) (nI f) := by
  have hn : nt_sl a1 a3 a4 a11 Kn Yn := hI.2.2.1.1
  have hf0 := hn f hf
  rw [hy] at hf0
  obtain ⟨h1, h2, _⟩ := hf0
  have ef : (nI f).toNatClampNeg = f := nI_clamp (by omega)
  have h13 := hI.2.2.2.2.2.2.2 f hf
  have hcd : cd = 0 := hI.2.2.2.2.2.2.1.1
  unfold wpX_fsync
  refine nt_bad hf ?_
  refine br_t rfl ⟨pk_in f 6 hf, nm_r (by rw [ef, h1]) (br_f (nt_nm1 (by omega)) ⟨pk_in f 6 hf, br_t (by rw [ef, h13, hg]) (br_f (by rw [hcd]; decide) ?_)⟩)⟩
  exact nt_f53 hI hf hy hY hY' H
theorem nt_m185 {post : St2 → Prop} {ch cd nu sg : Int32} {a1 a2 a3 a4 a5 a6 a7 a8 a9 a10 a11 a12 a13 a14 : Nat → Int32} (H : ∀ b12, (∀ h, h < 6 → b12 h = a11 h) → post (ch, cd, nu, sg, a1, a2, a3, a4, a5, a6, a7, a8, a9, a10, a11, b12, a13, a14)) : ∃ n, wX_mount_185 post ch cd nu sg n 0 a1 a2 a3 a4 a5 a6 a7 a8 a9 a10 a11 a12 a13 a14 := by
  refine pk_loop (fun n i b12 => wX_mount_185 post ch cd nu sg n (nI i) a1 a2 a3 a4 a5 a6 a7 a8 a9 a10 a11 b12 a13 a14) (fun i b12 => ∀ h, h < i → b12 h = a11 h) 6 0 a12 (by omega) (fun h hh => absurd hh (by omega)) ?_ ?_
  · intro n b12 h
    exact br_t (nI_le (a := 6) (b := 6) (by omega) (by omega)) (H b12 h)
  · intro n i b12 hi h hw
    have ei : (nI i).toNatClampNeg = i := nI_clamp (by omega)
    refine br_f (nI_ge (b := 6) hi (by omega)) ⟨pk_in i 6 hi, pk_in i 6 hi, nm_r (by rw [ei]) (nm_r (nI_1 i) (hw _ ?_))⟩
    intro j hj
    by_cases e : j = i
    · rw [e, pk_us]
    · rw [pk_un e]
      exact h j (by omega)
theorem nt_I_mt {ch cd nu sg : Int32} {a1 a2 a3 a4 a5 a6 a7 a8 a9 a10 a11 a12 a13 a14 : Nat → Int32} {Kn Kl Kp : Nat → nt_K} {Yn Yl Yp : Nat → nt_Y} {N c : Nat} {q : Option (Nat × Nat)} {yg : Nat → Int32} (hI : nt_I Kn Kl Kp Yn Yl Yp N c q yg ch cd nu sg a1 a2 a3 a4 a5 a6 a7 a8 a9 a10 a11 a12 a13 a14)
    {b11 b12 b13 : Nat → Int32} (e11 : ∀ h, h < 6 → b11 h = a12 h) (e12 : ∀ h, h < 6 → b12 h = b11 h) (e13 : ∀ h, h < 6 → b13 h = 0) : nt_I Kl Kl Kp Yl Yl Yp N c q (fun _ => 0) ch cd nu sg a1 a2 a3 a4 a5 a6 a7 a8 a9 a10 b11 b12 b13 a14 := by
  obtain ⟨h1, h2, ⟨h31, h32, h33⟩, h4, h5, h6, h7, h8⟩ := hI
  refine ⟨h1, h2, ⟨fun j hj => by rw [e11 j hj]; exact h32 j hj, fun j hj => by rw [e12 j hj, e11 j hj]; exact h32 j hj, h33⟩, h4, fun j hj => ⟨(h5 j hj).2.1, (h5 j hj).2⟩, h6, ?_, e13⟩
  cases q with
  | none =>
    obtain ⟨g1, g2, g3⟩ := h7
    exact ⟨g1, g2, fun j hj => by rw [e12 j hj, e11 j hj]; exact g3 j hj⟩
  | some p =>
    obtain ⟨b, fb⟩ := p
    obtain ⟨g1, g2, g3, g4, g5, g6, g7, g8, g9, g10⟩ := h7
    exact ⟨g1, g2, g3, g4, g5, g6, g7, g8, by rw [e12 fb g7, e11 fb g7]; exact g9, fun j hj e => by rw [e12 j hj, e11 j hj]; exact g10 j hj e⟩
theorem nt_m49 {post : St2 → Prop} {ch cd nu sg : Int32} {a1 a2 a3 a4 a5 a6 a7 a8 a9 a10 a11 a12 a13 a14 : Nat → Int32} {Kn Kl Kp : Nat → nt_K} {Yn Yl Yp : Nat → nt_Y} {N c : Nat} {q : Option (Nat × Nat)} {yg : Nat → Int32} (hI : nt_I Kn Kl Kp Yn Yl Yp N c q yg ch cd nu sg a1 a2 a3 a4 a5 a6 a7 a8 a9 a10 a11 a12 a13 a14)
    (H : ∀ (dh dd du dg : Int32) (d1 d2 d3 d4 d5 d6 d7 d8 d9 d10 d11 d12 d13 d14 : Nat → Int32), nt_I Kl Kl Kp Yl Yl Yp N c q (fun _ => 0) dh dd du dg d1 d2 d3 d4 d5 d6 d7 d8 d9 d10 d11 d12 d13 d14 → post (dh, dd, du, dg, d1, d2, d3, d4, d5, d6, d7, d8, d9, d10, d11, d12, d13, d14)) : wX_mount_49 post (nI (N % 2)) ch cd nu sg a1 a2 a3 a4 a5 a6 a7 a8 a9 a10 a11 a12 a13 a14 := by
  have hI0 := hI
  obtain ⟨h1, ⟨h21, h22, h23⟩, _, ⟨h41, h42, h43⟩, _, ⟨h61, h62, _, _⟩, h7, _⟩ := hI0
  have ep : (nI (N % 2)).toNatClampNeg = N % 2 := nI_clamp (by omega)
  have ec : (nI c).toNatClampNeg = c := nI_clamp (by omega)
  refine ⟨pk_in (N % 2) 2 (by omega), nm_r (by rw [ep, h62]) ?_⟩
  refine pk_loop (fun n i (s : (Nat → Int32) × (Nat → Int32)) => wX_mount_61 post (nI (N % 2)) ch cd (nI N) sg n (nI i) a1 a2 a3 a4 a5 a6 a7 a8 a9 a10 s.1 a12 s.2 a14) (fun i s => ∀ h, h < i → s.1 h = a9 (N % 2 * 6 + h) ∧ s.2 h = 0) 6 0 (a11, a13) (by omega) (fun h hh => absurd hh (by omega)) ?_ ?_
  · intro n s h
    obtain ⟨b11, b13⟩ := s
    have hne : ¬ a5 (nI c).toNatClampNeg = nI N := by
      rw [ec, h43]
      intro z
      exact nt_nm1 (n := N) (by omega) z.symm
    refine br_t (nI_le (a := 6) (b := 6) (by omega) (by omega)) ⟨pk_in (N % 2) 2 (by omega), ?_⟩
    cases q with
    | none =>
      have h7' := h7
      obtain ⟨g1, g2, g3⟩ := h7'
      subst h42 g1 h23
      refine nm_r (by rw [ep, g2]) ⟨1, br_f (by decide) ⟨pk_in c 128 h41, br_f hne (nt_m185 (fun b12 hb => H _ _ _ _ _ _ _ _ _ _ _ _ _ _ _ _ _ _ ?_))⟩⟩
      exact nt_I_mt hI (fun j hj => (h j hj).1.trans (g3 j hj).symm) hb (fun j hj => (h j hj).2)
    | some p =>
      obtain ⟨b, fb⟩ := p
      have h7' := h7
      obtain ⟨g1, g2, g3, g4, g5, g6, g7, g8, g9, g10⟩ := h7'
      have eb : (nI b).toNatClampNeg = b := nI_clamp (by omega)
      subst h42 g1 h23
      refine nm_r (by rw [ep, g2]) ⟨2, br_f (by decide) ⟨pk_in b 128 g3, br_t (by rw [eb]; exact g5) ⟨pk_in b 128 g3, pk_in fb 6 g7 (hx := by rw [eb]; exact g8), nm_r (by rw [eb, g8, nI_clamp (by omega)]) ⟨pk_in b 128 g3, nm_r (by rw [eb, g6]) (nm_r (show (0 : Int32) + 1 = 1 by decide) (nm_e (br_f (by decide) ⟨pk_in c 128 h41, br_f hne (nt_m185 (fun b12 hb => H _ _ _ _ _ _ _ _ _ _ _ _ _ _ _ _ _ _ ?_))⟩)))⟩⟩⟩⟩
      refine nt_I_mt hI (fun j hj => ?_) hb (fun j hj => (h j hj).2)
      by_cases e : j = fb
      · rw [e, pk_us]
        exact g9.symm
      · rw [pk_un e]
        exact (h j hj).1.trans (g10 j hj e).symm
  · intro n i s hi h hw
    have ei : (nI i).toNatClampNeg = i := nI_clamp (by omega)
    have e3 : nI (N % 2) * 6 + nI i = nI (N % 2 * 6 + i) := nt_ix6 _ _
    refine br_f (nI_ge (b := 6) hi (by omega)) ⟨pk_in (N % 2 * 6 + i) 12 (by omega) (hx := e3), pk_in i 6 hi, nm_r (by rw [ei, e3, nI_clamp (by omega)]) ⟨pk_in i 6 hi, nm_r (by rw [ei]) (nm_r (nI_1 i) (hw (_, _) ?_))⟩⟩
    intro j hj
    show upd s.1 i (a9 (N % 2 * 6 + i)) j = a9 (N % 2 * 6 + j) ∧ upd s.2 i 0 j = 0
    by_cases e : j = i
    · rw [e, pk_us, pk_us]
      exact ⟨rfl, rfl⟩
    · rw [pk_un e, pk_un e]
      exact h j (by omega)
theorem nt_mount {post : St2 → Prop} {ch cd nu sg : Int32} {a1 a2 a3 a4 a5 a6 a7 a8 a9 a10 a11 a12 a13 a14 : Nat → Int32} {Kn Kl Kp : Nat → nt_K} {Yn Yl Yp : Nat → nt_Y} {N c : Nat} {q : Option (Nat × Nat)} {yg : Nat → Int32} (hI : nt_I Kn Kl Kp Yn Yl Yp N c q yg ch cd nu sg a1 a2 a3 a4 a5 a6 a7 a8 a9 a10 a11 a12 a13 a14)
    (H : ∀ (dh dd du dg : Int32) (d1 d2 d3 d4 d5 d6 d7 d8 d9 d10 d11 d12 d13 d14 : Nat → Int32), nt_I Kl Kl Kp Yl Yl Yp N c q (fun _ => 0) dh dd du dg d1 d2 d3 d4 d5 d6 d7 d8 d9 d10 d11 d12 d13 d14 → post (dh, dd, du, dg, d1, d2, d3, d4, d5, d6, d7, d8, d9, d10, d11, d12, d13, d14)) : wpX_mount post (ch, cd, nu, sg, a1, a2, a3, a4, a5, a6, a7, a8, a9, a10, a11, a12, a13, a14) := by
  have hm := nt_m49 hI H
  obtain ⟨_, ⟨h21, h22, h23⟩, _, _, _, ⟨h61, h62, h63, h64⟩, _, _⟩ := hI
  rcases Nat.mod_two_eq_zero_or_one N with hp | hp
  · rw [hp] at hm h61 h62 h63 h64
    have k7 : a7 1 = nI (N - 1) := h63
    have k8 : a8 1 = nI (N - 1) := h64
    exact br_t (k7.trans k8.symm) (br_t (h61.trans h62.symm) (br_t (by rw [k8, h62]; exact nI_le (by omega) (by omega)) hm))
  · rw [hp] at hm h61 h62 h63 h64
    have k7 : a7 0 = nI (N - 1) := h63
    have k8 : a8 0 = nI (N - 1) := h64
    exact br_t (h61.trans h62.symm) (br_t (k7.trans k8.symm) (br_f (by rw [k8, h62]; exact nI_ge (by omega) (by omega)) hm))
theorem nt_crash {post : Int32 → St2 → Prop} {ch cd nu sg : Int32} {a1 a2 a3 a4 a5 a6 a7 a8 a9 a10 a11 a12 a13 a14 : Nat → Int32} {Kn Kl Kp : Nat → nt_K} {Yn Yl Yp : Nat → nt_Y} {N c : Nat} {q : Option (Nat × Nat)} {yg : Nat → Int32} (hI : nt_I Kn Kl Kp Yn Yl Yp N c q yg ch cd nu sg a1 a2 a3 a4 a5 a6 a7 a8 a9 a10 a11 a12 a13 a14)
    (H : ∀ (dh dd du dg : Int32) (d1 d2 d3 d4 d5 d6 d7 d8 d9 d10 d11 d12 d13 d14 : Nat → Int32), nt_I Kl Kl Kp Yl Yl Yp N c q (fun _ => 0) dh dd du dg d1 d2 d3 d4 d5 d6 d7 d8 d9 d10 d11 d12 d13 d14 → post (nI (nt_cnt Yl 6)) (dh, dd, du, dg, d1, d2, d3, d4, d5, d6, d7, d8, d9, d10, d11, d12, d13, d14)) : wpX_crash post (ch, cd, nu, sg, a1, a2, a3, a4, a5, a6, a7, a8, a9, a10, a11, a12, a13, a14) := by
  unfold wpX_crash
  refine nt_mount hI (fun dh dd du dg d1 d2 d3 d4 d5 d6 d7 d8 d9 d10 d11 d12 d13 d14 hI' => ?_)
  exact nt_count hI'.2.2.1.1 (H dh dd du dg d1 d2 d3 d4 d5 d6 d7 d8 d9 d10 d11 d12 d13 d14 hI')
end
section
theorem nt_size {post : Int32 → Prop} {ch cd nu sg : Int32} {a1 a2 a3 a4 a5 a6 a7 a8 a9 a10 a11 a12 a13 a14 : Nat → Int32} {Kn Kl Kp : Nat → nt_K} {Yn Yl Yp : Nat → nt_Y} {N c : Nat} {q : Option (Nat × Nat)} {yg : Nat → Int32} (hI : nt_I Kn Kl Kp Yn Yl Yp N c q yg ch cd nu sg a1 a2 a3 a4 a5 a6 a7 a8 a9 a10 a11 a12 a13 a14)
    {f s : Nat} {cc : Nat → Int32} (hf : f < 6) (hy : Yn f = some (s, cc)) (H : post (nI s)) : wpX_size post (ch, cd, nu, sg, a1, a2, a3, a4, a5, a6, a7, a8, a9, a10, a11, a12, a13, a14) (nI f) := by
  have hf0 := hI.2.2.1.1 f hf
  rw [hy] at hf0
  obtain ⟨h1, h2, h3, h4, h5⟩ := hf0
  have ef : (nI f).toNatClampNeg = f := nI_clamp (by omega)
  have ek : (nI (Kn f).1).toNatClampNeg = (Kn f).1 := nI_clamp (by omega)
  unfold wpX_size
  refine nt_bad hf ?_
  refine br_t rfl ⟨pk_in f 6 hf, ?_⟩
  rw [ef, h1, ek, h4]
  exact br_f (nt_nm1 (by omega)) ⟨pk_in f 6 hf, pk_in _ 128 h2, H⟩
theorem nt_read {post : Int32 → Prop} {ch cd nu sg : Int32} {a1 a2 a3 a4 a5 a6 a7 a8 a9 a10 a11 a12 a13 a14 : Nat → Int32} {Kn Kl Kp : Nat → nt_K} {Yn Yl Yp : Nat → nt_Y} {N c : Nat} {q : Option (Nat × Nat)} {yg : Nat → Int32} (hI : nt_I Kn Kl Kp Yn Yl Yp N c q yg ch cd nu sg a1 a2 a3 a4 a5 a6 a7 a8 a9 a10 a11 a12 a13 a14)
    {f i s : Nat} {cc : Nat → Int32} (hf : f < 6) (hi : i < 4) (hy : Yn f = some (s, cc)) (H : post (if i < s then cc i else 0)) : wpX_read post (ch, cd, nu, sg, a1, a2, a3, a4, a5, a6, a7, a8, a9, a10, a11, a12, a13, a14) (nI f) (nI i) := by
  have hf0 := hI.2.2.1.1 f hf
  rw [hy] at hf0
  obtain ⟨h1, h2, h3, h4, h5⟩ := hf0
  have ef : (nI f).toNatClampNeg = f := nI_clamp (by omega)
  have ek : (nI (Kn f).1).toNatClampNeg = (Kn f).1 := nI_clamp (by omega)
  have ex := nt_ixc (i := i) h2 hi
  unfold wpX_read
  refine nt_bad hf ?_
  refine br_t rfl ⟨pk_in f 6 hf, ?_⟩
  rw [ef, h1, ek, h4, ex]
  refine br_f (nt_nm1 (by omega)) (br_f (nI_pos (by omega)) ⟨pk_in f 6 hf, pk_in _ 128 h2, pk_lt i s (fun z => ⟨pk_in f 6 hf, pk_in ((Kn f).1 * 4 + i) 512 (by omega) (hx := nt_ix _ _), ?_⟩) (fun z => ?_)⟩)
  · rw [(h5 i z).2.1]
    have e2 : (nI ((Kn f).2 i)).toNatClampNeg = (Kn f).2 i := nI_clamp (by have := (h5 i z).1; omega)
    refine ⟨pk_in _ 128 (h5 i z).1, ?_⟩
    rw [e2, (h5 i z).2.2]
    rw [if_pos z] at H
    exact H
  · rw [if_neg (by omega)] at H
    exact H
theorem nt_remove {post : Int32 → St2 → Prop} {ch cd nu sg : Int32} {a1 a2 a3 a4 a5 a6 a7 a8 a9 a10 a11 a12 a13 a14 : Nat → Int32} {Kn Kl Kp : Nat → nt_K} {Yn Yl Yp : Nat → nt_Y} {N c : Nat} {q : Option (Nat × Nat)} {yg : Nat → Int32} (hI : nt_I Kn Kl Kp Yn Yl Yp N c q yg ch cd nu sg a1 a2 a3 a4 a5 a6 a7 a8 a9 a10 a11 a12 a13 a14)
    {f s : Nat} {cc : Nat → Int32} (hf : f < 6) (hy : Yn f = some (s, cc)) {Yn' : Nat → nt_Y} (hY : Yn' f = none) (hY' : ∀ h, h ≠ f → Yn' h = Yn h) {yg' : Nat → Int32} (hg1 : yg' f = 0) (hg2 : ∀ h, h ≠ f → yg' h = yg h)
    (H : ∀ Kn' (dh dd du dg : Int32) (d1 d2 d3 d4 d5 d6 d7 d8 d9 d10 d11 d12 d13 d14 : Nat → Int32), nt_I Kn' Kl Kp Yn' Yl Yp N c q yg' dh dd du dg d1 d2 d3 d4 d5 d6 d7 d8 d9 d10 d11 d12 d13 d14 → post (nI s) (dh, dd, du, dg, d1, d2, d3, d4, d5, d6, d7, d8, d9, d10, d11, d12, d13, d14)) : wpX_remove post (ch, cd, nu, sg, a1, a2, a3, a4, a5, a6, a7, a8, a9, a10, a11, a12, a13, a14) (nI f) := by
  have hf0 := hI.2.2.1.1 f hf
  rw [hy] at hf0
  obtain ⟨h1, h2, h3, h4, h5⟩ := hf0
  have ef : (nI f).toNatClampNeg = f := nI_clamp (by omega)
  have ek : (nI (Kn f).1).toNatClampNeg = (Kn f).1 := nI_clamp (by omega)
  unfold wpX_remove
  refine nt_bad hf ?_
  refine br_t rfl ⟨pk_in f 6 hf, ?_⟩
  rw [ef, h1, ek, h4]
  refine br_f (nt_nm1 (by omega)) ⟨pk_in f 6 hf, pk_in _ 128 h2, nm_e ⟨pk_in f 6 hf, nm_e ⟨pk_in f 6 hf, nm_e (H (nt_up Kn f (0, fun _ => 0)) _ _ _ _ _ _ _ _ _ _ _ _ _ _ _ _ _ _ ?_)⟩⟩⟩
  refine nt_I_node hI (f := f) (fun _ => False) (fun x hx => hx.elim) (fun e => e) (fun b _ e => e) (fun x _ => ⟨rfl, rfl, rfl, rfl, fun _ _ => rfl⟩) (k' := (0, fun _ => 0)) (y' := none) pk_us (List.not_mem_nil) (fun h e => pk_un e) hY hY' ?_ hI.1
  intro h hh
  by_cases e : h = f
  · rw [e, pk_us, hg1]
  · rw [pk_un e, hg2 h e]
    exact hI.2.2.2.2.2.2.2 h hh
/-- two nodes: 0 if they are one, 1 if the sizes differ -/
theorem nt_differs {post : Int32 → Prop} {ch cd nu sg : Int32} {a1 a2 a3 a4 a5 a6 a7 a8 a9 a10 a11 a12 a13 a14 : Nat → Int32} {v v' : Int32} {k k' : nt_K} {y y' : nt_Y} (hv : nt_nd a1 a3 a4 v k y) (hv' : nt_nd a1 a3 a4 v' k' y')
    (H : ∀ d : Nat, d ≤ 1 → (v = v' → d = 0) → (∀ s c s' c', y = some (s, c) → y' = some (s', c') → s ≠ s' → d = 1) → post (nI d)) : wpX_differs post (ch, cd, nu, sg, a1, a2, a3, a4, a5, a6, a7, a8, a9, a10, a11, a12, a13, a14) v v' := by
  cases y with
  | none =>
    have e : v = -1 := hv
    refine br_t e (br_c (fun z => H 0 (by omega) (fun _ => rfl) (fun s c s' c' q => absurd q.symm (Option.some_ne_none _))) (fun z => H 1 (by omega) (fun z' => absurd z' z) (fun s c s' c' q => absurd q.symm (Option.some_ne_none _))))
  | some p =>
    obtain ⟨s, cc⟩ := p
    obtain ⟨h1, h2, h3, h4, h5⟩ := hv
    subst h1
    refine br_f (nt_nm1 (by omega)) ?_
    cases y' with
    | none =>
      have e : v' = -1 := hv'
      refine br_t e (br_c (fun z => H 0 (by omega) (fun _ => rfl) (fun s c s' c' _ q => absurd q.symm (Option.some_ne_none _))) (fun z => H 1 (by omega) (fun z' => absurd z' z) (fun s c s' c' _ q => absurd q.symm (Option.some_ne_none _))))
    | some p' =>
      obtain ⟨s', cc'⟩ := p'
      obtain ⟨g1, g2, g3, g4, g5⟩ := hv'
      subst g1
      have ek : (nI k.1).toNatClampNeg = k.1 := nI_clamp (by omega)
      have ek' : (nI k'.1).toNatClampNeg = k'.1 := nI_clamp (by omega)
      refine br_f (nt_nm1 (by omega)) ⟨pk_in _ 128 h2, pk_in _ 128 g2, ?_⟩
      rw [ek, ek', h4, g4]
      refine pk_eq s s' (fun z => ?_) (fun z => H 1 (by omega) (fun e => ?_) (fun _ _ _ _ _ _ _ => rfl))
      · subst z
        refine pk_loop (σ := Unit) (fun n i _ => wX_differs_40 post (nI k.1) (nI k'.1) ch cd nu sg a1 a2 a3 a4 a5 a6 a7 a8 a9 a10 a11 a12 a13 a14 n (nI i)) (fun _ _ => True) s 0 () (Nat.zero_le s) trivial ?_ ?_
        · intro n _ _
          exact ⟨pk_in _ 128 h2, br_t (by rw [ek, h4]; exact nI_le (Nat.le_refl s) (by omega)) (H 0 (by omega) (fun _ => rfl) (fun s c s' c' q q' ne => absurd (by rw [Option.some.injEq, Prod.mk.injEq] at q q'; omega) ne))⟩
        · intro n i _ hi _ hw
          have ex := nt_ixc (i := i) h2 (by omega)
          have ex' := nt_ixc (i := i) g2 (by omega)
          have b1 := (h5 i hi).1
          have b2 := (g5 i hi).1
          refine ⟨pk_in _ 128 h2, br_f (by rw [ek, h4]; exact nI_ge hi (by omega)) ⟨pk_in (k.1 * 4 + i) 512 (by omega) (hx := nt_ix _ _), pk_in (k.2 i) 128 b1 (hx := by rw [ex]; exact (h5 i hi).2.1), pk_in (k'.1 * 4 + i) 512 (by omega) (hx := nt_ix _ _), pk_in (k'.2 i) 128 b2 (hx := by rw [ex']; exact (g5 i hi).2.1), ?_⟩⟩
          refine br_c (fun _ => nm_r (nI_1 i) (hw () trivial)) (fun z => H 1 (by omega) (fun e => absurd ?_ z) (fun s c s' c' q q' ne => rfl))
          rw [e]
      · have e' := (nI_eq (by omega) (by omega)).mp e
        rw [e', g4] at h4
        exact absurd ((nI_eq (by omega) (by omega)).mp h4).symm z
theorem nt_unsafe {post : Int32 → Prop} {ch cd nu sg : Int32} {a1 a2 a3 a4 a5 a6 a7 a8 a9 a10 a11 a12 a13 a14 : Nat → Int32} {Kn Kl Kp : Nat → nt_K} {Yn Yl Yp : Nat → nt_Y} {N c : Nat} {q : Option (Nat × Nat)} {yg : Nat → Int32} (hI : nt_I Kn Kl Kp Yn Yl Yp N c q yg ch cd nu sg a1 a2 a3 a4 a5 a6 a7 a8 a9 a10 a11 a12 a13 a14)
    (H : ∀ m : Nat, m ≤ 6 → ((∀ h, h < 6 → a11 h = a12 h) → m = 0) → ((∃ h s c s' c', h < 6 ∧ Yn h = some (s, c) ∧ Yl h = some (s', c') ∧ s ≠ s') → 1 ≤ m) → post (nI m)) : wpX_unsafe post (ch, cd, nu, sg, a1, a2, a3, a4, a5, a6, a7, a8, a9, a10, a11, a12, a13, a14) := by
  obtain ⟨_, _, ⟨h31, h32, _⟩, _⟩ := hI
  refine pk_loop (fun n i x => wX_unsafe_4 post ch cd nu sg a1 a2 a3 a4 a5 a6 a7 a8 a9 a10 a11 a12 a13 a14 n x (nI i)) (fun i x => ∃ m, x = nI m ∧ m ≤ i ∧ ((∀ h, h < 6 → a11 h = a12 h) → m = 0) ∧ ((∃ h s c s' c', h < i ∧ Yn h = some (s, c) ∧ Yl h = some (s', c') ∧ s ≠ s') → 1 ≤ m)) 6 0 0 (by omega) ⟨0, rfl, by omega, fun _ => rfl, fun ⟨h, s, c, s', c', hh, _⟩ => absurd hh (by omega)⟩ ?_ ?_
  · intro n x h
    obtain ⟨m, hx, hm, hz, hd⟩ := h
    subst hx
    exact br_t (nI_le (a := 6) (b := 6) (by omega) (by omega)) (H m hm hz hd)
  · intro n i x hi h hw
    obtain ⟨m, hx, hm, hz, hd⟩ := h
    subst hx
    have ei : (nI i).toNatClampNeg = i := nI_clamp (by omega)
    refine br_f (nI_ge (b := 6) hi (by omega)) ⟨pk_in i 6 hi, pk_in i 6 hi, ?_⟩
    rw [ei]
    refine nt_differs (h31 i hi) (h32 i hi) (fun d hd1 hd2 hd3 => ?_)
    refine pk_eq d 0 (fun z => nm_r (nI_1 i) (hw _ ⟨m, rfl, by omega, hz, ?_⟩)) (fun z => nm_r (nI_1 m) (nm_r (nI_1 i) (hw _ ⟨m + 1, rfl, by omega, fun a => absurd (hd2 (a i hi)) z, fun _ => by omega⟩)))
    intro ⟨h, s, c, s', c', hh, y1, y2, ne⟩
    by_cases e : h = i
    · subst e
      have := hd3 s c s' c' y1 y2 ne
      omega
    · exact hd ⟨h, s, c, s', c', by omega, y1, y2, ne⟩
theorem nt_same {ch cd nu sg : Int32} {a1 a2 a3 a4 a5 a6 a7 a8 a9 a10 a11 a12 a13 a14 : Nat → Int32} {K Kp : Nat → nt_K} {Y Yp : Nat → nt_Y} {N c : Nat} {q : Option (Nat × Nat)} {yg : Nat → Int32} (hI : nt_I K K Kp Y Y Yp N c q yg ch cd nu sg a1 a2 a3 a4 a5 a6 a7 a8 a9 a10 a11 a12 a13 a14) : ∀ h, h < 6 → a11 h = a12 h := by
  intro h hh
  have h1 := hI.2.2.1.1 h hh
  have h2 := hI.2.2.1.2.1 h hh
  cases hy : Y h with
  | none =>
    rw [hy] at h1 h2
    have e1 : a11 h = -1 := h1
    have e2 : a12 h = -1 := h2
    rw [e1, e2]
  | some p =>
    rw [hy] at h1 h2
    rw [h1.1, h2.1]
theorem nt_unsafe0 {post : Int32 → Prop} {ch cd nu sg : Int32} {a1 a2 a3 a4 a5 a6 a7 a8 a9 a10 a11 a12 a13 a14 : Nat → Int32} {K Kp : Nat → nt_K} {Y Yp : Nat → nt_Y} {N c : Nat} {q : Option (Nat × Nat)} {yg : Nat → Int32} (hI : nt_I K K Kp Y Y Yp N c q yg ch cd nu sg a1 a2 a3 a4 a5 a6 a7 a8 a9 a10 a11 a12 a13 a14) (H : post 0) : wpX_unsafe post (ch, cd, nu, sg, a1, a2, a3, a4, a5, a6, a7, a8, a9, a10, a11, a12, a13, a14) :=
  nt_unsafe hI (fun m _ hz _ => by
    have := hz (nt_same hI)
    subst this
    exact H)
end
section
theorem nt_upu {α : Type} (f : Nat → α) (k : Nat) (x y : α) : nt_up (nt_up f k x) k y = nt_up f k y := by
  funext j
  by_cases e : j = k
  · rw [e, nt_ups, nt_ups]
  · rw [nt_upn e, nt_upn e, nt_upn e]
theorem nt_c76 {post : Int32 → St2 → Prop} {Kn Kl Kp : Nat → nt_K} {Yn Yl Yp : Nat → nt_Y} {N c : Nat} {q : Option (Nat × Nat)} {yg : Nat → Int32} {f g n r : Nat} {cc : Nat → Int32} (hf : f < 6) (hg : g < 6) (hfg : g ≠ f) (hyg : Yn g = some (n, cc)) (hr : r < 128)
    (hb : ∀ h, h < 6 → (h ≠ f → r ∉ nt_bl (Kn h) (Yn h)) ∧ r ∉ nt_bl (Kl h) (Yl h) ∧ r ∉ nt_bl (Kp h) (Yp h)) (hrc : r ≠ c) (hrq : r ∉ nt_CL q) (hn4 : n ≤ 4)
    (H : ∀ Kn' (dh dd du dg : Int32) (d1 d2 d3 d4 d5 d6 d7 d8 d9 d10 d11 d12 d13 d14 : Nat → Int32), nt_I Kn' Kl Kp (nt_up Yn f (some (n, cc))) Yl Yp N c q yg dh dd du dg d1 d2 d3 d4 d5 d6 d7 d8 d9 d10 d11 d12 d13 d14 → post (nI n) (dh, dd, du, dg, d1, d2, d3, d4, d5, d6, d7, d8, d9, d10, d11, d12, d13, d14)) :
    ∀ (m i : Nat) (w : Nat → Nat) (dh dd du dg : Int32) (d1 d2 d3 d4 d5 d6 d7 d8 d9 d10 d11 d12 d13 d14 : Nat → Int32), i + m = n → nt_I (nt_up Kn f (r, w)) Kl Kp (nt_up Yn f (some (i, cc))) Yl Yp N c q yg dh dd du dg d1 d2 d3 d4 d5 d6 d7 d8 d9 d10 d11 d12 d13 d14 → wX_copy_76 post (nI f) (nI (Kn g).1) (nI n) (m + 1) (nI i) dh dd du dg d1 d2 d3 d4 d5 d6 d7 d8 d9 d10 d11 d12 d13 d14 := by
  intro m
  induction m with
  | zero =>
    intro i w dh dd du dg d1 d2 d3 d4 d5 d6 d7 d8 d9 d10 d11 d12 d13 d14 hi hI
    have hi' : i = n := hi
    subst hi'
    exact br_t (nI_le (Nat.le_refl i) (by omega)) (H _ dh dd du dg d1 d2 d3 d4 d5 d6 d7 d8 d9 d10 d11 d12 d13 d14 hI)
  | succ m ih =>
    intro i w dh dd du dg d1 d2 d3 d4 d5 d6 d7 d8 d9 d10 d11 d12 d13 d14 hi hI
    refine br_f (nI_ge (by omega) (by omega)) (nt_freshI hI (fun r2 g2 b14 hr2 hg2 hb2 hc2 hq2 => ?_))
    have hnf := hI.2.2.1.1 f hf
    rw [nt_ups, nt_ups] at hnf
    obtain ⟨p1, p2, p3, p4, p5⟩ := hnf
    have hng := hI.2.2.1.1 g hg
    rw [nt_upn hfg, nt_upn hfg, hyg] at hng
    obtain ⟨o1, o2, o3, o4, o5⟩ := hng
    have oi := o5 i (by omega)
    have ef : (nI f).toNatClampNeg = f := nI_clamp (by omega)
    have er : (nI r).toNatClampNeg = r := nI_clamp (by omega)
    have er2 : (nI r2).toNatClampNeg = r2 := nI_clamp (by omega)
    have ex := nt_ixc (i := i) o2 (by omega)
    have exr := nt_ixc (i := i) hr (by omega)
    have oi1 := oi.1
    have p1' : d11 f = nI r := p1
    have ew : d1 (d4 (nI (Kn g).1 * 4 + nI i).toNatClampNeg).toNatClampNeg = cc i := by
      rw [ex, oi.2.1, nI_clamp (by omega)]
      exact oi.2.2
    refine ⟨pk_in ((Kn g).1 * 4 + i) 512 (by omega) (hx := nt_ix _ _), pk_in ((Kn g).2 i) 128 oi1 (hx := by rw [ex]; exact oi.2.1), pk_in r2 128 hr2, nm_r (by rw [er2, ew]) ⟨pk_in f 6 hf, pk_in (r * 4 + i) 512 (by omega) (hx := by rw [ef, p1']; exact nt_ix _ _), nm_r (by rw [ef, p1', exr]) ⟨pk_in f 6 hf, pk_in r 128 hr (hx := by rw [ef, p1']), nm_r (by rw [ef, p1', er, nI_1]) (nm_r (nI_1 i) (ih (i + 1) (nt_up w i r2) _ _ _ _ _ _ _ _ _ _ _ _ _ _ _ _ _ _ (by omega) ?_))⟩⟩⟩
    have hf2 := (hb2 f hf).1
    rw [nt_ups, nt_ups] at hf2
    have hcf := (hI.2.2.2.2.1 f hf).1
    rw [nt_ups, nt_ups] at hcf
    rw [← nt_upu Kn f (r, w) (r, nt_up w i r2)]
    refine nt_I_node hI (f := f) (fun x => x = r ∨ x = r2) ?_ (fun e => e.elim (fun e => hrc e.symm) (fun e => hc2 e.symm)) (fun b hb' e => e.elim (fun e => hrq (e ▸ hb')) (fun e => hq2 (e ▸ hb'))) ?_ (k' := (r, nt_up w i r2)) (y' := some (i + 1, cc)) ?_ ?_ (fun h e => rfl) nt_ups (fun h e => (nt_upn e).trans (nt_upn e).symm) hI.2.2.2.2.2.2.2 ⟨g2, hg2, rfl⟩
    · intro x hx h hh
      rcases hx with e | e
      · subst e
        refine ⟨fun e => ?_, (hb h hh).2⟩
        rw [nt_upn e, nt_upn e]
        exact (hb h hh).1 e
      · subst e
        exact ⟨fun _ => (hb2 h hh).1, (hb2 h hh).2⟩
    · intro x hx
      have hx1 : x ≠ r := fun e => hx (Or.inl e)
      have hx2 : x ≠ r2 := fun e => hx (Or.inr e)
      refine ⟨pk_un hx2, rfl, pk_un hx1, pk_un hx2, fun j hj => ?_⟩
      rw [pk_un (by omega)]
    · refine ⟨p1, hr, by omega, pk_us, fun j hj => ?_⟩
      show nt_up w i r2 j < 128 ∧ upd d4 (r * 4 + i) (nI r2) (r * 4 + j) = nI (nt_up w i r2 j) ∧ upd d1 r2 (cc i) (nt_up w i r2 j) = cc j
      by_cases e : j = i
      · rw [e, nt_ups, pk_us, pk_us]
        exact ⟨hr2, rfl, rfl⟩
      · have hne : w j ≠ r2 := fun e' => hf2 (nt_bl_some.mpr (Or.inr ⟨j, by omega, e'.symm⟩))
        rw [nt_upn e, pk_un (by omega), pk_un hne]
        exact p5 j (by omega)
    · intro z
      rcases nt_bl_some.mp z with e | ⟨j, hj', e⟩
      · exact hrc e.symm
      · have e' : c = nt_up w i r2 j := e
        by_cases ej : j = i
        · rw [ej, nt_ups] at e'
          exact hc2 e'.symm
        · rw [nt_upn ej] at e'
          exact hcf (nt_bl_some.mpr (Or.inr ⟨j, by omega, e'⟩))
theorem nt_copy {post : Int32 → St2 → Prop} {ch cd nu sg : Int32} {a1 a2 a3 a4 a5 a6 a7 a8 a9 a10 a11 a12 a13 a14 : Nat → Int32} {Kn Kl Kp : Nat → nt_K} {Yn Yl Yp : Nat → nt_Y} {N c : Nat} {q : Option (Nat × Nat)} {yg : Nat → Int32} (hI : nt_I Kn Kl Kp Yn Yl Yp N c q yg ch cd nu sg a1 a2 a3 a4 a5 a6 a7 a8 a9 a10 a11 a12 a13 a14)
    {f g n s : Nat} {cc cf : Nat → Int32} (hf : f < 6) (hg : g < 6) (hfg : g ≠ f) (hyf : Yn f = some (s, cf)) (hyg : Yn g = some (n, cc)) {Yn' : Nat → nt_Y} (hY : Yn' f = some (n, cc)) (hY' : ∀ h, h ≠ f → Yn' h = Yn h)
    (H : ∀ Kn' (dh dd du dg : Int32) (d1 d2 d3 d4 d5 d6 d7 d8 d9 d10 d11 d12 d13 d14 : Nat → Int32), nt_I Kn' Kl Kp Yn' Yl Yp N c q yg dh dd du dg d1 d2 d3 d4 d5 d6 d7 d8 d9 d10 d11 d12 d13 d14 → post (nI n) (dh, dd, du, dg, d1, d2, d3, d4, d5, d6, d7, d8, d9, d10, d11, d12, d13, d14)) : wpX_copy post (ch, cd, nu, sg, a1, a2, a3, a4, a5, a6, a7, a8, a9, a10, a11, a12, a13, a14) (nI f) (nI g) := by
  have hYe : Yn' = nt_up Yn f (some (n, cc)) := by
    funext h
    by_cases e : h = f
    · rw [e, nt_ups, hY]
    · rw [nt_upn e, hY' h e]
  subst hYe
  have hnf := hI.2.2.1.1 f hf
  rw [hyf] at hnf
  obtain ⟨p1, p2, _⟩ := hnf
  have hng := hI.2.2.1.1 g hg
  rw [hyg] at hng
  obtain ⟨o1, o2, o3, o4, o5⟩ := hng
  have ef : (nI f).toNatClampNeg = f := nI_clamp (by omega)
  have eg : (nI g).toNatClampNeg = g := nI_clamp (by omega)
  have ek : (nI (Kn g).1).toNatClampNeg = (Kn g).1 := nI_clamp (by omega)
  unfold wpX_copy
  refine nt_bad hf ?_
  refine br_t rfl ?_
  refine nt_bad hg ?_
  refine br_t rfl ⟨pk_in f 6 hf, br_f (by rw [ef, p1]; exact nt_nm1 (by omega)) ⟨pk_in g 6 hg, br_f (by rw [eg, o1]; exact nt_nm1 (by omega)) ⟨pk_in g 6 hg, nm_r (by rw [eg, o1]) ⟨pk_in _ 128 o2, nm_r (by rw [ek, o4]) (br_f (fun z => hfg ((nI_eq (by omega) (by omega)).mp z).symm) ?_)⟩⟩⟩⟩
  refine nt_wn hI hf 0 (0, fun _ => 0) none rfl (fun x hx => absurd hx (List.not_mem_nil)) (fun r g' b4 b14 hr hg' hb hc hq h4 _ => ⟨n + 1, ?_⟩)
  refine nt_c76 (Kn := Kn) (Yn := Yn) hf hg hfg hyg hr (fun h hh => ⟨fun _ => (hb h hh).1, (hb h hh).2⟩) hc hq o3 H n 0 (fun _ => 0) _ _ _ _ _ _ _ _ _ _ _ _ _ _ _ _ _ _ (by omega) ?_
  refine nt_I_node hI (f := f) (fun x => x = r) ?_ (fun e => hc e.symm) (fun b hb' e => hq (e ▸ hb')) ?_ (k' := (r, fun _ => 0)) (y' := some (0, cc)) ?_ ?_ (fun h e => pk_un e) nt_ups (fun h e => nt_upn e) hI.2.2.2.2.2.2.2 ⟨g', hg', rfl⟩
  · intro x hx h hh
    subst hx
    exact ⟨fun _ => (hb h hh).1, (hb h hh).2⟩
  · intro x hx
    exact ⟨rfl, pk_un hx, pk_un hx, pk_un hx, fun i hi => h4 x i hi hx⟩
  · exact ⟨pk_us, hr, Nat.zero_le 4, pk_us, fun i hi => absurd hi (Nat.not_lt_zero i)⟩
  · intro z
    rcases nt_bl_some.mp z with e | ⟨i, hi, _⟩
    · exact hc e.symm
    · exact Nat.not_lt_zero i hi
end
section
/-- two files, no other -/
def nt_LY (f g : Nat) (yf yg : nt_Y) : Nat → nt_Y := fun h => if h = f then yf else if h = g then yg else none
theorem nt_LYf {f g : Nat} {yf yg : nt_Y} : nt_LY f g yf yg f = yf := if_pos rfl
theorem nt_LYg {f g : Nat} {yf yg : nt_Y} (h : g ≠ f) : nt_LY f g yf yg g = yg := (if_neg h).trans (if_pos rfl)
theorem nt_LYo {f g h : Nat} {yf yg : nt_Y} (h1 : h ≠ f) (h2 : h ≠ g) : nt_LY f g yf yg h = none := (if_neg h1).trans (if_neg h2)
theorem nt_LYf' {f g h : Nat} {yf yf' yg : nt_Y} (e : h ≠ f) : nt_LY f g yf' yg h = nt_LY f g yf yg h := (if_neg e).trans (if_neg e).symm
theorem nt_LYg' {f g h : Nat} {yf yg yg' : nt_Y} (e : h ≠ g) : nt_LY f g yf yg' h = nt_LY f g yf yg h := by
  unfold nt_LY
  rw [if_neg e, if_neg e]
theorem nt_two {f g : Nat} {a b : Nat × (Nat → Int32)} (hf : f < 6) (hg : g < 6) (hfg : g ≠ f) : nt_cnt (nt_LY f g (some a) (some b)) 6 = 2 := by
  have h1 : f = 0 ∨ f = 1 ∨ f = 2 ∨ f = 3 ∨ f = 4 ∨ f = 5 := by omega
  have h2 : g = 0 ∨ g = 1 ∨ g = 2 ∨ g = 3 ∨ g = 4 ∨ g = 5 := by omega
  rcases h1 with h1 | h1 | h1 | h1 | h1 | h1 <;> rcases h2 with h2 | h2 | h2 | h2 | h2 | h2 <;> first | (subst h1 h2; rfl) | (subst h1 h2; exact absurd rfl hfg)
/-- the last checks -/
theorem nt_l567 {post : Int32 → St0 → Prop} (hp : post 1 ()) {ch cd nu sg : Int32} {a1 a2 a3 a4 a5 a6 a7 a8 a9 a10 a11 a12 a13 a14 : Nat → Int32} {Kn Kl Kp : Nat → nt_K} {Yn Yl Yp : Nat → nt_Y} {N c : Nat} {q : Option (Nat × Nat)} {yg : Nat → Int32} (hI : nt_I Kn Kl Kp Yn Yl Yp N c q yg ch cd nu sg a1 a2 a3 a4 a5 a6 a7 a8 a9 a10 a11 a12 a13 a14)
    {f g n z r mc ms kc ks : Nat} {x0 x9 : Int32} {cf cg : Nat → Int32} (hf : f < 6) (hg : g < 6) (hyf : Yn f = some (n, cf)) (hyg : Yn g = some (0, cg)) (hn4 : n ≤ 4) (hc0 : x9 = 0 → 0 < n → cf 0 = 10) (hc1 : ¬ x9 = 0 → 0 < n → cf 0 = x0) (hz : z ≤ r) (hr : r ≤ 6) :
    wL_lawOf_567 post mc ms x0 (nI f) (nI g) (nI n) x9 1 0 2 (nI z) (nI r) kc ks ch cd nu sg a1 a2 a3 a4 a5 a6 a7 a8 a9 a10 a11 a12 a13 a14 := by
  refine br_f (nI_nlt hz (by omega)) (br_t rfl (br_t rfl (br_t rfl ?_)))
  refine nt_size hI hf hyf (br_t rfl ?_)
  refine nt_size hI hg hyg (br_t rfl ?_)
  refine nt_read (i := 0) hI hf (by decide) hyf ?_
  refine pk_le n 0 (fun e => br_t (if_neg (by omega)) hp) (fun e => br_c (fun e9 => br_t ?_ hp) (fun e9 => br_t ?_ hp))
  · rw [if_pos e]
    exact hc0 e9 e
  · rw [if_pos e]
    exact hc1 e9 e
/-- from the copy to the end -/
theorem nt_lend {post : Int32 → St0 → Prop} (hp : post 1 ()) {ch cd nu sg : Int32} {a1 a2 a3 a4 a5 a6 a7 a8 a9 a10 a11 a12 a13 a14 : Nat → Int32} {K Kp : Nat → nt_K} {Yp : Nat → nt_Y} {N c : Nat} {q : Option (Nat × Nat)}
    {f g m n mc ms kc ks : Nat} {x0 x9 : Int32} {cf cg : Nat → Int32} (hI : nt_I K K Kp (nt_LY f g (some (m, cf)) (some (n, cg))) (nt_LY f g (some (m, cf)) (some (n, cg))) Yp N c q (fun _ => 0) ch cd nu sg a1 a2 a3 a4 a5 a6 a7 a8 a9 a10 a11 a12 a13 a14) (hN : N + 1 < 1000)
    (hf : f < 6) (hg : g < 6) (hfg : g ≠ f) (hn4 : n ≤ 4) (hc0 : x9 = 0 → 0 < n → cg 0 = 10) (hc1 : ¬ x9 = 0 → 0 < n → cg 0 = x0) (fu : Nat) :
    wL_lawOf_363 post mc ms x0 (nI f) (nI g) (nI m) (nI n) x9 kc ks ch cd nu sg a1 a2 a3 a4 a5 a6 a7 a8 a9 a10 a11 a12 a13 a14 (fu + 1) 1 (nI 4) := by
  refine br_t (nI_le (a := 4) (b := 4) (by omega) (by omega)) ?_
  refine nt_copy hI hf hg hfg nt_LYf (nt_LYg hfg) (Yn' := nt_LY f g (some (n, cg)) (some (n, cg))) nt_LYf (fun h e => nt_LYf' e) (fun K1 dh dd du dg d1 d2 d3 d4 d5 d6 d7 d8 d9 d10 d11 d12 d13 d14 hI1 => ?_)
  clear hI
  refine nt_remove hI1 hg (nt_LYg hfg) (Yn' := nt_LY f g (some (n, cg)) none) (nt_LYg hfg) (fun h e => nt_LYg' e) (yg' := fun _ => 0) rfl (fun _ _ => rfl) (fun K2 dh dd du dg d1 d2 d3 d4 d5 d6 d7 d8 d9 d10 d11 d12 d13 d14 hI2 => ?_)
  clear hI1
  refine nt_create hI2 hg (nt_LYg hfg) cg (Yn' := nt_LY f g (some (n, cg)) (some (0, cg))) (nt_LYg hfg) (fun h e => nt_LYg' e) (yg' := nt_up (fun _ => 0) g 1) nt_ups (fun h e => nt_upn e) (fun K3 dh dd du dg d1 d2 d3 d4 d5 d6 d7 d8 d9 d10 d11 d12 d13 d14 hI3 => ?_)
  clear hI2
  refine nt_unsafe hI3 (fun u hu _ hu2 => ?_)
  refine nt_fsyncY hI3 hN hg (nt_LYg hfg) nt_ups (fun c4 dh dd du dg d1 d2 d3 d4 d5 d6 d7 d8 d9 d10 d11 d12 d13 d14 hI4 => ?_)
  refine nt_unsafe0 hI4 ?_
  refine nt_crash hI4 (fun dh dd du dg d1 d2 d3 d4 d5 d6 d7 d8 d9 d10 d11 d12 d13 d14 hI5 => ?_)
  rw [nt_two hf hg hfg]
  refine br_f (by decide) (br_t rfl (br_t rfl (br_t rfl (pk_le n 0 (fun e => ?_) (fun e => ?_)))))
  · exact nt_l567 (z := 0) hp hI5 hf hg nt_LYf (nt_LYg hfg) hn4 hc0 hc1 (by omega) hu
  · exact nt_l567 (z := 1) hp hI5 hf hg nt_LYf (nt_LYg hfg) hn4 hc0 hc1 (hu2 ⟨g, 0, cg, n, cg, hg, nt_LYg hfg, nt_LYg hfg, by omega⟩) hu
/-- a turn of the reading loop -/
theorem nt_l402 {post : Int32 → St0 → Prop} {J : Int32 → Int32 → Prop} {ch cd nu sg : Int32} {a1 a2 a3 a4 a5 a6 a7 a8 a9 a10 a11 a12 a13 a14 : Nat → Int32} {Kn Kl Kp : Nat → nt_K} {Yn Yl Yp : Nat → nt_Y} {N c : Nat} {q : Option (Nat × Nat)} {yg : Nat → Int32} (hI : nt_I Kn Kl Kp Yn Yl Yp N c q yg ch cd nu sg a1 a2 a3 a4 a5 a6 a7 a8 a9 a10 a11 a12 a13 a14)
    {f g m n i mc ms kc ks : Nat} {x0 x9 mine other : Int32} {cf cg : Nat → Int32} (hf : f < 6) (hg : g < 6) (hyf : Yn f = some (m, cf)) (hyg : Yn g = some (n, cg)) (hm4 : m ≤ 4) (hn4 : n ≤ 4) (hi : i < 4) (h1 : i < m → cf i = mine) (h2 : i < n → cg i = other) (hJ : J 1 (nI (i + 1))) :
    wL_lawOf_402 post mc ms J x0 (nI f) (nI g) (nI m) (nI n) x9 1 (nI i) mine other kc ks ch cd nu sg a1 a2 a3 a4 a5 a6 a7 a8 a9 a10 a11 a12 a13 a14 := by
  refine br_f (by decide) ?_
  have h456 : ∀ z0 z1, z1 = z0 → wL_lawOf_456 post mc ms J x0 (nI f) (nI g) (nI m) (nI n) x9 (nI i) z0 z1 kc ks ch cd nu sg a1 a2 a3 a4 a5 a6 a7 a8 a9 a10 a11 a12 a13 a14 := fun z0 z1 e => br_t e (nm_r (nI_1 i) hJ)
  have h431 : ∀ z0 z1, z1 = z0 → wL_lawOf_431 post mc ms J x0 (nI f) (nI g) (nI m) (nI n) x9 (nI i) other z0 z1 kc ks ch cd nu sg a1 a2 a3 a4 a5 a6 a7 a8 a9 a10 a11 a12 a13 a14 := by
    intro z0 z1 e
    refine br_t e ?_
    refine nt_read hI hg hi hyg ?_
    refine pk_le n i (fun z => h456 _ _ (if_neg (by omega))) (fun z => h456 _ _ ?_)
    rw [if_pos z]
    exact h2 z
  refine nt_read hI hf hi hyf ?_
  refine pk_le m i (fun z => h431 _ _ (if_neg (by omega))) (fun z => h431 _ _ ?_)
  rw [if_pos z]
  exact h1 z
/-- the reading loop and what is behind it -/
theorem nt_l363 {post : Int32 → St0 → Prop} (hp : post 1 ()) {ch cd nu sg : Int32} {a1 a2 a3 a4 a5 a6 a7 a8 a9 a10 a11 a12 a13 a14 : Nat → Int32} {K Kp : Nat → nt_K} {Yp : Nat → nt_Y} {N c : Nat} {q : Option (Nat × Nat)}
    {f g m n mc ms kc ks : Nat} {x0 x9 : Int32} {cf cg : Nat → Int32} (hI : nt_I K K Kp (nt_LY f g (some (m, cf)) (some (n, cg))) (nt_LY f g (some (m, cf)) (some (n, cg))) Yp N c q (fun _ => 0) ch cd nu sg a1 a2 a3 a4 a5 a6 a7 a8 a9 a10 a11 a12 a13 a14) (hN : N + 1 < 1000)
    (hf : f < 6) (hg : g < 6) (hfg : g ≠ f) (hm4 : m ≤ 4) (hn4 : n ≤ 4) (hf0 : x9 = 0 → ∀ i, i < m → cf i = x0 + nI i) (hf1 : ¬ x9 = 0 → ∀ i, i < m → cf i = nI i) (hg0 : x9 = 0 → ∀ i, i < n → cg i = 10 + nI i) (hg1 : ¬ x9 = 0 → ∀ i, i < n → cg i = x0 - nI i) :
    ∃ fu, wL_lawOf_363 post mc ms x0 (nI f) (nI g) (nI m) (nI n) x9 kc ks ch cd nu sg a1 a2 a3 a4 a5 a6 a7 a8 a9 a10 a11 a12 a13 a14 fu 1 0 := by
  refine pk_loop (σ := Unit) (fun fu i _ => wL_lawOf_363 post mc ms x0 (nI f) (nI g) (nI m) (nI n) x9 kc ks ch cd nu sg a1 a2 a3 a4 a5 a6 a7 a8 a9 a10 a11 a12 a13 a14 fu 1 (nI i)) (fun _ _ => True) 4 0 () (by omega) trivial ?_ ?_
  · intro fu _ _
    refine nt_lend hp hI hN hf hg hfg hn4 (fun e h => ?_) (fun e h => ?_) fu
    · rw [hg0 e 0 h]
      decide
    · rw [hg1 e 0 h, nI_0, Int32.sub_zero]
  · intro fu i _ hi _ hw
    refine br_f (nI_ge (b := 4) hi (by omega)) (br_c (fun e => ?_) (fun e => ?_))
    · exact br_t e (nt_l402 hI hf hg nt_LYf (nt_LYg hfg) hm4 hn4 hi (hf0 e i) (hg0 e i) (hw () trivial))
    · exact br_f e (nt_l402 hI hf hg nt_LYf (nt_LYg hfg) hm4 hn4 hi (hf1 e i) (hg1 e i) (hw () trivial))
theorem nt_l318 {post : Int32 → St0 → Prop} (hp : post 1 ()) {ch cd nu sg : Int32} {a1 a2 a3 a4 a5 a6 a7 a8 a9 a10 a11 a12 a13 a14 : Nat → Int32} {K Kp : Nat → nt_K} {Yp : Nat → nt_Y} {N c : Nat} {q : Option (Nat × Nat)}
    {f g m n mc ms kc ks : Nat} {x0 x9 z0 z1 : Int32} {cf cg : Nat → Int32} (hI : nt_I K K Kp (nt_LY f g (some (m, cf)) (some (n, cg))) (nt_LY f g (some (m, cf)) (some (n, cg))) Yp N c q (fun _ => 0) ch cd nu sg a1 a2 a3 a4 a5 a6 a7 a8 a9 a10 a11 a12 a13 a14) (hN : N + 1 < 1000)
    (hf : f < 6) (hg : g < 6) (hfg : g ≠ f) (hm4 : m ≤ 4) (hn4 : n ≤ 4) (hf0 : x9 = 0 → ∀ i, i < m → cf i = x0 + nI i) (hf1 : ¬ x9 = 0 → ∀ i, i < m → cf i = nI i) (hg0 : x9 = 0 → ∀ i, i < n → cg i = 10 + nI i) (hg1 : ¬ x9 = 0 → ∀ i, i < n → cg i = x0 - nI i) (hz : z1 = z0) :
    wL_lawOf_318 post mc ms x0 (nI f) (nI g) (nI m) (nI n) x9 z0 z1 kc ks ch cd nu sg a1 a2 a3 a4 a5 a6 a7 a8 a9 a10 a11 a12 a13 a14 := by
  refine br_t hz ?_
  refine nt_unsafe0 hI (br_t rfl ?_)
  refine nt_size hI hf nt_LYf (br_t rfl ?_)
  refine nt_size hI hg (nt_LYg hfg) (br_t rfl ?_)
  exact nt_l363 hp hI hN hf hg hfg hm4 hn4 hf0 hf1 hg0 hg1
end
section
/-- the words of the two files while they are written anew -/
def nt_wA (x0 : Int32) (t : Nat) : Nat → Int32 := fun j => if j < t then nI j else x0 + nI j
def nt_wB (x0 : Int32) (t : Nat) : Nat → Int32 := fun j => if j < t then 10 + nI j else x0 - nI j
theorem nt_wA_hi {x0 : Int32} {t j : Nat} (h : t ≤ j) : nt_wA x0 t j = x0 + nI j := if_neg (by omega)
theorem nt_wA_lo {x0 : Int32} {t j : Nat} (h : j < t) : nt_wA x0 t j = nI j := if_pos h
theorem nt_wB_hi {x0 : Int32} {t j : Nat} (h : t ≤ j) : nt_wB x0 t j = x0 - nI j := if_neg (by omega)
theorem nt_wB_lo {x0 : Int32} {t j : Nat} (h : j < t) : nt_wB x0 t j = 10 + nI j := if_pos h
theorem nt_wA_s {x0 : Int32} {t j : Nat} (h : j ≠ t) : nt_wA x0 (t + 1) j = nt_wA x0 t j := by
  rcases Nat.lt_or_ge j t with e | e
  · rw [nt_wA_lo e, nt_wA_lo (by omega)]
  · rw [nt_wA_hi e, nt_wA_hi (by omega)]
theorem nt_wB_s {x0 : Int32} {t j : Nat} (h : j ≠ t) : nt_wB x0 (t + 1) j = nt_wB x0 t j := by
  rcases Nat.lt_or_ge j t with e | e
  · rw [nt_wB_lo e, nt_wB_lo (by omega)]
  · rw [nt_wB_hi e, nt_wB_hi (by omega)]
theorem nt_LYe {f g h : Nat} {yf yg : nt_Y} (e : h = f) : nt_LY f g yf yg h = yf := if_pos e
theorem nt_rem6 {g : Nat} (hg : g < 6) : nI g + 1 - (nI g + 1) / 6 * 6 = nI ((g + 1) % 6) := by
  rw [nI_1]
  exact pk_rem (a := g + 1) (d := 6) (by omega) (by omega) (by omega)
/-- behind the first crash -/
theorem nt_l284 {post : Int32 → St0 → Prop} (hp : post 1 ()) {ch cd nu sg : Int32} {a1 a2 a3 a4 a5 a6 a7 a8 a9 a10 a11 a12 a13 a14 : Nat → Int32} {K Kp : Nat → nt_K} {Yp : Nat → nt_Y} {N c : Nat} {q : Option (Nat × Nat)}
    {f g m n mc ms kc ks : Nat} {x0 x9 x13 z0 z1 : Int32} {cf cg : Nat → Int32} (hI : nt_I K K Kp (nt_LY f g (some (m, cf)) (some (n, cg))) (nt_LY f g (some (m, cf)) (some (n, cg))) Yp N c q (fun _ => 0) ch cd nu sg a1 a2 a3 a4 a5 a6 a7 a8 a9 a10 a11 a12 a13 a14) (hN : N + 1 < 1000)
    (hf : f < 6) (hg : g < 6) (hfg : g ≠ f) (hm4 : m ≤ 4) (hn4 : n ≤ 4) (hf0 : x9 = 0 → ∀ i, i < m → cf i = x0 + nI i) (hf1 : ¬ x9 = 0 → ∀ i, i < m → cf i = nI i) (hg0 : x9 = 0 → ∀ i, i < n → cg i = 10 + nI i) (hg1 : ¬ x9 = 0 → ∀ i, i < n → cg i = x0 - nI i) (hz : z1 = z0) (h3 : f = (g + 1) % 6 → x13 = -3) (h0 : f ≠ (g + 1) % 6 → x13 = 0) :
    wL_lawOf_284 post mc ms x0 (nI f) (nI g) (nI m) (nI n) x9 0 x13 2 z0 z1 kc ks ch cd nu sg a1 a2 a3 a4 a5 a6 a7 a8 a9 a10 a11 a12 a13 a14 := by
  refine br_t hz (br_t rfl (br_t rfl ⟨by decide, ?_⟩))
  rw [nt_rem6 hg]
  refine pk_eq f ((g + 1) % 6) (fun e => ?_) (fun e => ?_)
  · exact nt_l318 hp hI hN hf hg hfg hm4 hn4 hf0 hf1 hg0 hg1 (h3 e)
  · exact nt_l318 hp hI hN hf hg hfg hm4 hn4 hf0 hf1 hg0 hg1 (h0 e)
/-- the fsync of g, the third create, the crash -/
theorem nt_l246g {post : Int32 → St0 → Prop} (hp : post 1 ()) {ch cd nu sg : Int32} {a1 a2 a3 a4 a5 a6 a7 a8 a9 a10 a11 a12 a13 a14 : Nat → Int32} {Kn Kl Kp : Nat → nt_K} {Yp : Nat → nt_Y} {N c : Nat}
    {f g m n mc ms kc ks : Nat} {x0 x9 x10 x11 : Int32} (hI : nt_I Kn Kl Kp (nt_LY f g (some (m, nt_wA x0 m)) (some (n, nt_wB x0 n))) (nt_LY f g (some (m, nt_wA x0 0)) (some (n, nt_wB x0 0))) Yp N c none (fun _ => 0) ch cd nu sg a1 a2 a3 a4 a5 a6 a7 a8 a9 a10 a11 a12 a13 a14) (hN : N + 1 < 1000)
    (hf : f < 6) (hg : g < 6) (hfg : g ≠ f) (hm4 : m ≤ 4) (hn4 : n ≤ 4) (h9 : x9 = 0) (h2 : x10 = 0 → x11 = 2) (h1 : ¬ x10 = 0 → x11 = 1) :
    wL_lawOf_246 post mc ms x0 (nI f) (nI g) (nI m) (nI n) x9 x10 x11 (nI g) kc ks ch cd nu sg a1 a2 a3 a4 a5 a6 a7 a8 a9 a10 a11 a12 a13 a14 := by
  have k0 : ∀ i, i < m → nt_wA x0 0 i = x0 + nI i := fun i _ => nt_wA_hi (Nat.zero_le i)
  have k1 : ∀ i, i < n → nt_wB x0 n i = 10 + nI i := fun i hi => nt_wB_lo hi
  unfold wL_lawOf_246
  refine nt_fsyncN hI hg (nt_LYg hfg) rfl (Yl' := nt_LY f g (some (m, nt_wA x0 0)) (some (n, nt_wB x0 n))) (nt_LYg hfg) (fun h e => nt_LYg' e) (fun K1 Kl1 c1 q1 dh dd du dg d1 d2 d3 d4 d5 d6 d7 d8 d9 d10 d11 d12 d13 d14 hI1 => ⟨by decide, ?_⟩)
  rw [nt_rem6 hg]
  by_cases ht : f = (g + 1) % 6
  · refine nt_create3 hI1 (f := (g + 1) % 6) (by omega) (nt_LYe ht.symm) ?_
    refine nt_crash hI1 (fun dh dd du dg d1 d2 d3 d4 d5 d6 d7 d8 d9 d10 d11 d12 d13 d14 hI2 => ?_)
    rw [nt_two hf hg hfg]
    refine br_c (fun e => ?_) (fun e => ?_)
    · exact nt_l284 hp hI2 hN hf hg hfg hm4 hn4 (fun _ => k0) (fun z => absurd h9 z) (fun _ => k1) (fun z => absurd h9 z) (h2 e) (fun _ => rfl) (fun z => absurd ht z)
    · exact nt_l284 hp hI2 hN hf hg hfg hm4 hn4 (fun _ => k0) (fun z => absurd h9 z) (fun _ => k1) (fun z => absurd h9 z) (h1 e) (fun _ => rfl) (fun z => absurd ht z)
  · refine nt_create hI1 (f := (g + 1) % 6) (by omega) (nt_LYo (fun e => ht e.symm) (by omega)) (fun _ => 0) (Yn' := nt_up _ ((g + 1) % 6) (some (0, fun _ => 0))) nt_ups (fun h e => nt_upn e) (yg' := nt_up (fun _ => 0) ((g + 1) % 6) 1) nt_ups (fun h e => nt_upn e) (fun K2 dh dd du dg d1 d2 d3 d4 d5 d6 d7 d8 d9 d10 d11 d12 d13 d14 hI2 => ?_)
    refine nt_crash hI2 (fun dh dd du dg d1 d2 d3 d4 d5 d6 d7 d8 d9 d10 d11 d12 d13 d14 hI3 => ?_)
    rw [nt_two hf hg hfg]
    refine br_c (fun e => ?_) (fun e => ?_)
    · exact nt_l284 hp hI3 hN hf hg hfg hm4 hn4 (fun _ => k0) (fun z => absurd h9 z) (fun _ => k1) (fun z => absurd h9 z) (h2 e) (fun z => absurd z ht) (fun _ => rfl)
    · exact nt_l284 hp hI3 hN hf hg hfg hm4 hn4 (fun _ => k0) (fun z => absurd h9 z) (fun _ => k1) (fun z => absurd h9 z) (h1 e) (fun z => absurd z ht) (fun _ => rfl)
/-- the fsync of f, the third create, the crash -/
theorem nt_l246f {post : Int32 → St0 → Prop} (hp : post 1 ()) {ch cd nu sg : Int32} {a1 a2 a3 a4 a5 a6 a7 a8 a9 a10 a11 a12 a13 a14 : Nat → Int32} {Kn Kl Kp : Nat → nt_K} {Yp : Nat → nt_Y} {N c : Nat}
    {f g m n mc ms kc ks : Nat} {x0 x9 x10 x11 : Int32} (hI : nt_I Kn Kl Kp (nt_LY f g (some (m, nt_wA x0 m)) (some (n, nt_wB x0 n))) (nt_LY f g (some (m, nt_wA x0 0)) (some (n, nt_wB x0 0))) Yp N c none (fun _ => 0) ch cd nu sg a1 a2 a3 a4 a5 a6 a7 a8 a9 a10 a11 a12 a13 a14) (hN : N + 1 < 1000)
    (hf : f < 6) (hg : g < 6) (hfg : g ≠ f) (hm4 : m ≤ 4) (hn4 : n ≤ 4) (h9 : ¬ x9 = 0) (h2 : x10 = 0 → x11 = 2) (h1 : ¬ x10 = 0 → x11 = 1) :
    wL_lawOf_246 post mc ms x0 (nI f) (nI g) (nI m) (nI n) x9 x10 x11 (nI f) kc ks ch cd nu sg a1 a2 a3 a4 a5 a6 a7 a8 a9 a10 a11 a12 a13 a14 := by
  have k0 : ∀ i, i < m → nt_wA x0 m i = nI i := fun i hi => nt_wA_lo hi
  have k1 : ∀ i, i < n → nt_wB x0 0 i = x0 - nI i := fun i _ => nt_wB_hi (Nat.zero_le i)
  unfold wL_lawOf_246
  refine nt_fsyncN hI hf nt_LYf rfl (Yl' := nt_LY f g (some (m, nt_wA x0 m)) (some (n, nt_wB x0 0))) nt_LYf (fun h e => nt_LYf' e) (fun K1 Kl1 c1 q1 dh dd du dg d1 d2 d3 d4 d5 d6 d7 d8 d9 d10 d11 d12 d13 d14 hI1 => ⟨by decide, ?_⟩)
  rw [nt_rem6 hg]
  by_cases ht : f = (g + 1) % 6
  · refine nt_create3 hI1 (f := (g + 1) % 6) (by omega) (nt_LYe ht.symm) ?_
    refine nt_crash hI1 (fun dh dd du dg d1 d2 d3 d4 d5 d6 d7 d8 d9 d10 d11 d12 d13 d14 hI2 => ?_)
    rw [nt_two hf hg hfg]
    refine br_c (fun e => ?_) (fun e => ?_)
    · exact nt_l284 hp hI2 hN hf hg hfg hm4 hn4 (fun z => absurd z h9) (fun _ => k0) (fun z => absurd z h9) (fun _ => k1) (h2 e) (fun _ => rfl) (fun z => absurd ht z)
    · exact nt_l284 hp hI2 hN hf hg hfg hm4 hn4 (fun z => absurd z h9) (fun _ => k0) (fun z => absurd z h9) (fun _ => k1) (h1 e) (fun _ => rfl) (fun z => absurd ht z)
  · refine nt_create hI1 (f := (g + 1) % 6) (by omega) (nt_LYo (fun e => ht e.symm) (by omega)) (fun _ => 0) (Yn' := nt_up _ ((g + 1) % 6) (some (0, fun _ => 0))) nt_ups (fun h e => nt_upn e) (yg' := nt_up (fun _ => 0) ((g + 1) % 6) 1) nt_ups (fun h e => nt_upn e) (fun K2 dh dd du dg d1 d2 d3 d4 d5 d6 d7 d8 d9 d10 d11 d12 d13 d14 hI2 => ?_)
    refine nt_crash hI2 (fun dh dd du dg d1 d2 d3 d4 d5 d6 d7 d8 d9 d10 d11 d12 d13 d14 hI3 => ?_)
    rw [nt_two hf hg hfg]
    refine br_c (fun e => ?_) (fun e => ?_)
    · exact nt_l284 hp hI3 hN hf hg hfg hm4 hn4 (fun z => absurd z h9) (fun _ => k0) (fun z => absurd z h9) (fun _ => k1) (h2 e) (fun z => absurd z ht) (fun _ => rfl)
    · exact nt_l284 hp hI3 hN hf hg hfg hm4 hn4 (fun z => absurd z h9) (fun _ => k0) (fun z => absurd z h9) (fun _ => k1) (h1 e) (fun z => absurd z ht) (fun _ => rfl)
end
section
/-- second writes: g's turn -/
theorem nt_l204 {post : Int32 → St0 → Prop} {J : Int32 → Int32 → Int32 → Int32 → Int32 → (Nat → Int32) → (Nat → Int32) → (Nat → Int32) → (Nat → Int32) → (Nat → Int32) → (Nat → Int32) → (Nat → Int32) → (Nat → Int32) → (Nat → Int32) → (Nat → Int32) → (Nat → Int32) → (Nat → Int32) → (Nat → Int32) → (Nat → Int32) → Prop} {ch cd nu sg : Int32} {a1 a2 a3 a4 a5 a6 a7 a8 a9 a10 a11 a12 a13 a14 : Nat → Int32} {Kn Kl Kp : Nat → nt_K} {Yl Yp : Nat → nt_Y} {N c : Nat} {q : Option (Nat × Nat)} {yg : Nat → Int32}
    {f g m n i mc ms kc ks : Nat} {x0 x9 x10 x11 : Int32} (hI : nt_I Kn Kl Kp (nt_LY f g (some (m, nt_wA x0 (min (i + 1) m))) (some (n, nt_wB x0 (min i n)))) Yl Yp N c q yg ch cd nu sg a1 a2 a3 a4 a5 a6 a7 a8 a9 a10 a11 a12 a13 a14)
    (hg : g < 6) (hfg : g ≠ f) (hn4 : n ≤ 4) (hi : i < 4)
    (hJ : ∀ K' (dh dd du dg : Int32) (d1 d2 d3 d4 d5 d6 d7 d8 d9 d10 d11 d12 d13 d14 : Nat → Int32), nt_I K' Kl Kp (nt_LY f g (some (m, nt_wA x0 (min (i + 1) m))) (some (n, nt_wB x0 (min (i + 1) n)))) Yl Yp N c q yg dh dd du dg d1 d2 d3 d4 d5 d6 d7 d8 d9 d10 d11 d12 d13 d14 → J (nI (i + 1)) dh dd du dg d1 d2 d3 d4 d5 d6 d7 d8 d9 d10 d11 d12 d13 d14) :
    wL_lawOf_204 post mc ms J x0 (nI f) (nI g) (nI m) (nI n) x9 x10 x11 (nI i) kc ks ch cd nu sg a1 a2 a3 a4 a5 a6 a7 a8 a9 a10 a11 a12 a13 a14 := by
  refine pk_le n i (fun z => nm_r (nI_1 i) (hJ Kn ch cd nu sg a1 a2 a3 a4 a5 a6 a7 a8 a9 a10 a11 a12 a13 a14 ?_)) (fun z => ?_)
  · rw [show min (i + 1) n = min i n by omega]
    exact hI
  · rw [show min i n = i by omega] at hI
    rw [show min (i + 1) n = i + 1 by omega] at hJ
    exact nt_write hI hg hi (by omega) hn4 (s' := n) (if_neg (by omega)).symm (nt_LYg hfg) (Yn' := nt_LY f g (some (m, nt_wA x0 (min (i + 1) m))) (some (n, nt_wB x0 (i + 1)))) (nt_LYg hfg) (fun h e => nt_LYg' e) (nt_wB_lo (by omega)) (fun j _ e => nt_wB_s e) (fun K' dh dd du dg d1 d2 d3 d4 d5 d6 d7 d8 d9 d10 d11 d12 d13 d14 hI' => nm_r (nI_1 i) (hJ K' dh dd du dg d1 d2 d3 d4 d5 d6 d7 d8 d9 d10 d11 d12 d13 d14 hI'))
/-- second writes -/
theorem nt_l179 {post : Int32 → St0 → Prop} (hp : post 1 ()) {Kl Kp : Nat → nt_K} {Yp : Nat → nt_Y} {N c : Nat}
    {f g m n mc ms kc ks : Nat} {x0 x9 x10 x11 : Int32} (hN : N + 1 < 1000)
    (hf : f < 6) (hg : g < 6) (hfg : g ≠ f) (hm4 : m ≤ 4) (hn4 : n ≤ 4) (h2 : x10 = 0 → x11 = 2) (h1 : ¬ x10 = 0 → x11 = 1) :
    ∀ (d i : Nat) (Kn : Nat → nt_K) (dh dd du dg : Int32) (d1 d2 d3 d4 d5 d6 d7 d8 d9 d10 d11 d12 d13 d14 : Nat → Int32), i + d = 4 → nt_I Kn Kl Kp (nt_LY f g (some (m, nt_wA x0 (min i m))) (some (n, nt_wB x0 (min i n)))) (nt_LY f g (some (m, nt_wA x0 0)) (some (n, nt_wB x0 0))) Yp N c none (fun _ => 0) dh dd du dg d1 d2 d3 d4 d5 d6 d7 d8 d9 d10 d11 d12 d13 d14 →
      wL_lawOf_179 post mc ms x0 (nI f) (nI g) (nI m) (nI n) x9 x10 x11 kc ks (d + 1) (nI i) dh dd du dg d1 d2 d3 d4 d5 d6 d7 d8 d9 d10 d11 d12 d13 d14 := by
  intro d
  induction d with
  | zero =>
    intro i Kn dh dd du dg d1 d2 d3 d4 d5 d6 d7 d8 d9 d10 d11 d12 d13 d14 hi hI
    have hi' : i = 4 := hi
    subst hi'
    rw [show min 4 m = m by omega, show min 4 n = n by omega] at hI
    exact br_t (nI_le (a := 4) (b := 4) (by omega) (by omega)) (br_c (fun e => nt_l246g hp hI hN hf hg hfg hm4 hn4 e h2 h1) (fun e => nt_l246f hp hI hN hf hg hfg hm4 hn4 e h2 h1))
  | succ d ih =>
    intro i Kn dh dd du dg d1 d2 d3 d4 d5 d6 d7 d8 d9 d10 d11 d12 d13 d14 hi hI
    refine br_f (nI_ge (b := 4) (by omega) (by omega)) (pk_le m i (fun z => ?_) (fun z => ?_))
    · refine nt_l204 (Kn := Kn) ?_ hg hfg hn4 (by omega) (fun K' dh dd du dg d1 d2 d3 d4 d5 d6 d7 d8 d9 d10 d11 d12 d13 d14 hI' => ih (i + 1) K' dh dd du dg d1 d2 d3 d4 d5 d6 d7 d8 d9 d10 d11 d12 d13 d14 (by omega) hI')
      rw [show min (i + 1) m = min i m by omega]
      exact hI
    · rw [show min i m = i by omega] at hI
      refine nt_write hI hf (by omega) (by omega) hm4 (s' := m) (if_neg (by omega)).symm nt_LYf (Yn' := nt_LY f g (some (m, nt_wA x0 (i + 1))) (some (n, nt_wB x0 (min i n)))) nt_LYf (fun h e => nt_LYf' e) (nt_wA_lo (by omega)) (fun j _ e => nt_wA_s e) (fun K' dh dd du dg d1 d2 d3 d4 d5 d6 d7 d8 d9 d10 d11 d12 d13 d14 hI' => ?_)
      refine nt_l204 (Kn := K') ?_ hg hfg hn4 (by omega) (fun K' dh dd du dg d1 d2 d3 d4 d5 d6 d7 d8 d9 d10 d11 d12 d13 d14 hI' => ih (i + 1) K' dh dd du dg d1 d2 d3 d4 d5 d6 d7 d8 d9 d10 d11 d12 d13 d14 (by omega) hI')
      rw [show min (i + 1) m = i + 1 by omega]
      exact hI'
/-- first writes: g's turn -/
theorem nt_l127 {post : Int32 → St0 → Prop} {J : Int32 → Int32 → Int32 → Int32 → Int32 → (Nat → Int32) → (Nat → Int32) → (Nat → Int32) → (Nat → Int32) → (Nat → Int32) → (Nat → Int32) → (Nat → Int32) → (Nat → Int32) → (Nat → Int32) → (Nat → Int32) → (Nat → Int32) → (Nat → Int32) → (Nat → Int32) → (Nat → Int32) → Prop} {ch cd nu sg : Int32} {a1 a2 a3 a4 a5 a6 a7 a8 a9 a10 a11 a12 a13 a14 : Nat → Int32} {Kn Kl Kp : Nat → nt_K} {Yl Yp : Nat → nt_Y} {N c : Nat} {q : Option (Nat × Nat)} {yg : Nat → Int32}
    {f g m n i mc ms kc ks : Nat} {x0 x9 x10 : Int32} (hI : nt_I Kn Kl Kp (nt_LY f g (some (min (i + 1) m, nt_wA x0 0)) (some (min i n, nt_wB x0 0))) Yl Yp N c q yg ch cd nu sg a1 a2 a3 a4 a5 a6 a7 a8 a9 a10 a11 a12 a13 a14)
    (hg : g < 6) (hfg : g ≠ f) (hn4 : n ≤ 4) (hi : i < 4)
    (hJ : ∀ K' (dh dd du dg : Int32) (d1 d2 d3 d4 d5 d6 d7 d8 d9 d10 d11 d12 d13 d14 : Nat → Int32), nt_I K' Kl Kp (nt_LY f g (some (min (i + 1) m, nt_wA x0 0)) (some (min (i + 1) n, nt_wB x0 0))) Yl Yp N c q yg dh dd du dg d1 d2 d3 d4 d5 d6 d7 d8 d9 d10 d11 d12 d13 d14 → J (nI (i + 1)) dh dd du dg d1 d2 d3 d4 d5 d6 d7 d8 d9 d10 d11 d12 d13 d14) :
    wL_lawOf_127 post mc ms J x0 (nI f) (nI g) (nI m) (nI n) x9 x10 (nI i) kc ks ch cd nu sg a1 a2 a3 a4 a5 a6 a7 a8 a9 a10 a11 a12 a13 a14 := by
  refine pk_le n i (fun z => nm_r (nI_1 i) (hJ Kn ch cd nu sg a1 a2 a3 a4 a5 a6 a7 a8 a9 a10 a11 a12 a13 a14 ?_)) (fun z => ?_)
  · rw [show min (i + 1) n = min i n by omega]
    exact hI
  · rw [show min i n = i by omega] at hI
    rw [show min (i + 1) n = i + 1 by omega] at hJ
    exact nt_write hI hg hi (Nat.le_refl i) (by omega) (s' := i + 1) (if_pos rfl).symm (nt_LYg hfg) (Yn' := nt_LY f g (some (min (i + 1) m, nt_wA x0 0)) (some (i + 1, nt_wB x0 0))) (nt_LYg hfg) (fun h e => nt_LYg' e) (nt_wB_hi (Nat.zero_le i)) (fun j _ e => rfl) (fun K' dh dd du dg d1 d2 d3 d4 d5 d6 d7 d8 d9 d10 d11 d12 d13 d14 hI' => nm_r (nI_1 i) (hJ K' dh dd du dg d1 d2 d3 d4 d5 d6 d7 d8 d9 d10 d11 d12 d13 d14 hI'))
/-- first writes -/
theorem nt_l100 {post : Int32 → St0 → Prop} (hp : post 1 ()) {Kl Kp : Nat → nt_K} {Yl Yp : Nat → nt_Y} {N c : Nat} {q : Option (Nat × Nat)} {yg : Nat → Int32}
    {f g m n mc ms kc ks : Nat} {x0 x9 x10 : Int32} (hN : N + 2 < 1000)
    (hf : f < 6) (hg : g < 6) (hfg : g ≠ f) (hm4 : m ≤ 4) (hn4 : n ≤ 4) (hy : yg f = 1) :
    ∀ (d i : Nat) (Kn : Nat → nt_K) (dh dd du dg : Int32) (d1 d2 d3 d4 d5 d6 d7 d8 d9 d10 d11 d12 d13 d14 : Nat → Int32), i + d = 4 → nt_I Kn Kl Kp (nt_LY f g (some (min i m, nt_wA x0 0)) (some (min i n, nt_wB x0 0))) Yl Yp N c q yg dh dd du dg d1 d2 d3 d4 d5 d6 d7 d8 d9 d10 d11 d12 d13 d14 →
      wL_lawOf_100 post mc ms x0 (nI f) (nI g) (nI m) (nI n) x9 x10 kc ks (d + 1) (nI i) dh dd du dg d1 d2 d3 d4 d5 d6 d7 d8 d9 d10 d11 d12 d13 d14 := by
  intro d
  induction d with
  | zero =>
    intro i Kn dh dd du dg d1 d2 d3 d4 d5 d6 d7 d8 d9 d10 d11 d12 d13 d14 hi hI
    have hi' : i = 4 := hi
    subst hi'
    rw [show min 4 m = m by omega, show min 4 n = n by omega] at hI
    refine br_t (nI_le (a := 4) (b := 4) (by omega) (by omega)) (br_c (fun e => ?_) (fun e => ?_))
    · refine nt_sync hI (by omega) (fun c' dh dd du dg d1 d2 d3 d4 d5 d6 d7 d8 d9 d10 d11 d12 d13 d14 hI' => ?_)
      rw [nt_two hf hg hfg]
      refine ⟨5, nt_l179 (Kl := Kn) (Kp := Kn) (Yp := nt_LY f g (some (m, nt_wA x0 0)) (some (n, nt_wB x0 0))) (N := N + 1) (c := c') hp (by omega) hf hg hfg hm4 hn4 (fun _ => rfl) (fun z => absurd e z) 4 0 Kn dh dd du dg d1 d2 d3 d4 d5 d6 d7 d8 d9 d10 d11 d12 d13 d14 (by omega) ?_⟩
      rw [Nat.zero_min, Nat.zero_min]
      exact hI'
    · refine nt_fsyncY hI (by omega) hf nt_LYf hy (fun c' dh dd du dg d1 d2 d3 d4 d5 d6 d7 d8 d9 d10 d11 d12 d13 d14 hI' => ?_)
      refine ⟨5, nt_l179 (Kl := Kn) (Kp := Kn) (Yp := nt_LY f g (some (m, nt_wA x0 0)) (some (n, nt_wB x0 0))) (N := N + 1) (c := c') hp (by omega) hf hg hfg hm4 hn4 (fun z => absurd z e) (fun _ => rfl) 4 0 Kn dh dd du dg d1 d2 d3 d4 d5 d6 d7 d8 d9 d10 d11 d12 d13 d14 (by omega) ?_⟩
      rw [Nat.zero_min, Nat.zero_min]
      exact hI'
  | succ d ih =>
    intro i Kn dh dd du dg d1 d2 d3 d4 d5 d6 d7 d8 d9 d10 d11 d12 d13 d14 hi hI
    refine br_f (nI_ge (b := 4) (by omega) (by omega)) (pk_le m i (fun z => ?_) (fun z => ?_))
    · refine nt_l127 (Kn := Kn) ?_ hg hfg hn4 (by omega) (fun K' dh dd du dg d1 d2 d3 d4 d5 d6 d7 d8 d9 d10 d11 d12 d13 d14 hI' => ih (i + 1) K' dh dd du dg d1 d2 d3 d4 d5 d6 d7 d8 d9 d10 d11 d12 d13 d14 (by omega) hI')
      rw [show min (i + 1) m = min i m by omega]
      exact hI
    · rw [show min i m = i by omega] at hI
      refine nt_write hI hf (by omega) (Nat.le_refl i) (by omega) (s' := i + 1) (if_pos rfl).symm nt_LYf (Yn' := nt_LY f g (some (i + 1, nt_wA x0 0)) (some (min i n, nt_wB x0 0))) nt_LYf (fun h e => nt_LYf' e) (nt_wA_hi (Nat.zero_le i)) (fun j _ e => rfl) (fun K' dh dd du dg d1 d2 d3 d4 d5 d6 d7 d8 d9 d10 d11 d12 d13 d14 hI' => ?_)
      refine nt_l127 (Kn := K') ?_ hg hfg hn4 (by omega) (fun K' dh dd du dg d1 d2 d3 d4 d5 d6 d7 d8 d9 d10 d11 d12 d13 d14 hI' => ih (i + 1) K' dh dd du dg d1 d2 d3 d4 d5 d6 d7 d8 d9 d10 d11 d12 d13 d14 (by omega) hI')
      rw [show min (i + 1) m = i + 1 by omega]
      exact hI'
end
section
theorem nt_l79 {post : Int32 → St0 → Prop} (hp : post 1 ()) {ch cd nu sg : Int32} {a1 a2 a3 a4 a5 a6 a7 a8 a9 a10 a11 a12 a13 a14 : Nat → Int32} {K : Nat → nt_K} {c : Nat}
    {f g m n mc ms kc ks : Nat} {x0 x9 x10 : Int32} (hI : nt_I K K K (fun _ => none) (fun _ => none) (fun _ => none) 1 c none (fun _ => 0) ch cd nu sg a1 a2 a3 a4 a5 a6 a7 a8 a9 a10 a11 a12 a13 a14)
    (hf : f < 6) (hg : g < 6) (hfg : g ≠ f) (hm4 : m ≤ 4) (hn4 : n ≤ 4) :
    wL_lawOf_79 post mc ms x0 (nI f) (nI g) (nI m) (nI n) x9 x10 kc ks ch cd nu sg a1 a2 a3 a4 a5 a6 a7 a8 a9 a10 a11 a12 a13 a14 := by
  unfold wL_lawOf_79
  refine nt_create hI hf rfl (nt_wA x0 0) (Yn' := nt_LY f g (some (0, nt_wA x0 0)) none) nt_LYf (fun h e => ?_) (yg' := nt_up (fun _ => 0) f 1) nt_ups (fun h e => nt_upn e) (fun K1 dh dd du dg d1 d2 d3 d4 d5 d6 d7 d8 d9 d10 d11 d12 d13 d14 hI1 => ?_)
  · by_cases e' : h = g
    · rw [e']
      exact nt_LYg hfg
    · exact nt_LYo e e'
  refine nt_create hI1 hg (nt_LYg hfg) (nt_wB x0 0) (Yn' := nt_LY f g (some (0, nt_wA x0 0)) (some (0, nt_wB x0 0))) (nt_LYg hfg) (fun h e => nt_LYg' e) (yg' := nt_up (nt_up (fun _ => 0) f 1) g 1) nt_ups (fun h e => nt_upn e) (fun K2 dh dd du dg d1 d2 d3 d4 d5 d6 d7 d8 d9 d10 d11 d12 d13 d14 hI2 => ?_)
  refine ⟨5, nt_l100 (Kl := K) (Kp := K) (Yl := fun _ => none) (Yp := fun _ => none) (N := 1) (c := c) (q := none) (yg := nt_up (nt_up (fun _ => 0) f 1) g 1) hp (by omega) hf hg hfg hm4 hn4 ?_ 4 0 K2 dh dd du dg d1 d2 d3 d4 d5 d6 d7 d8 d9 d10 d11 d12 d13 d14 (by omega) ?_⟩
  · rw [nt_upn (fun e => hfg e.symm), nt_ups]
  · rw [Nat.zero_min, Nat.zero_min]
    exact hI2
theorem nt_l66 {post : Int32 → St0 → Prop} (hp : post 1 ()) {ch cd nu sg : Int32} {a1 a2 a3 a4 a5 a6 a7 a8 a9 a10 a11 a12 a13 a14 : Nat → Int32} {K : Nat → nt_K} {c : Nat}
    {f g m n mc ms kc ks : Nat} {x0 x3 x9 : Int32} (hI : nt_I K K K (fun _ => none) (fun _ => none) (fun _ => none) 1 c none (fun _ => 0) ch cd nu sg a1 a2 a3 a4 a5 a6 a7 a8 a9 a10 a11 a12 a13 a14)
    (hf : f < 6) (hg : g < 6) (hfg : g ≠ f) (hm4 : m ≤ 4) (hn4 : n ≤ 4) :
    wL_lawOf_66 post mc ms x0 x3 (nI f) (nI g) (nI m) (nI n) x9 kc ks ch cd nu sg a1 a2 a3 a4 a5 a6 a7 a8 a9 a10 a11 a12 a13 a14 :=
  br_c (fun _ => nt_l79 hp hI hf hg hfg hm4 hn4) (fun _ => nt_l79 hp hI hf hg hfg hm4 hn4)
theorem nt_lawOf {post : Int32 → St0 → Prop} (hp : post 1 ()) (p0 p1 p2 p3 : Int32) : wpL_lawOf post 15 1334 () p0 p1 p2 p3 := by
  obtain ⟨j1, hj1, e1⟩ := pk_andE p1 (m := 7) 3 (by decide)
  obtain ⟨j2, hj2, e2⟩ := pk_andE (p1 >>> ((3 : Int32) &&& 31)) (m := 7) 3 (by decide)
  obtain ⟨j3, hj3, e3⟩ := pk_andE p2 (m := 7) 3 (by decide)
  obtain ⟨j4, hj4, e4⟩ := pk_andE (p2 >>> ((3 : Int32) &&& 31)) (m := 7) 3 (by decide)
  have r1 : nI j1 - nI j1 / 6 * 6 = nI (j1 % 6) := pk_rem (d := 6) (by omega) (by omega) (by omega)
  have r2 : nI j2 - nI j2 / 5 * 5 = nI (j2 % 5) := pk_rem (d := 5) (by omega) (by omega) (by omega)
  have r3 : nI j3 - nI j3 / 5 * 5 = nI (j3 % 5) := pk_rem (d := 5) (by omega) (by omega) (by omega)
  have r4 : nI j4 - nI j4 / 5 * 5 = nI (j4 % 5) := pk_rem (d := 5) (by omega) (by omega) (by omega)
  have r5 : nI (j1 % 6 + 1 + j2 % 5) - nI (j1 % 6 + 1 + j2 % 5) / 6 * 6 = nI ((j1 % 6 + 1 + j2 % 5) % 6) := pk_rem (d := 6) (by omega) (by omega) (by omega)
  refine ⟨by decide, by decide, 14, 1316, by decide, by decide, nt_init (fun K c dh dd du dg d1 d2 d3 d4 d5 d6 d7 d8 d9 d10 d11 d12 d13 d14 hI => ?_)⟩
  refine ⟨by decide, nm_r (by rw [e1, r1]) ⟨by decide, by decide, nm_r (by rw [e2, r2, nI_1, nI_add, r5]) ⟨by decide, nm_r (by rw [e3, r3]) ⟨by decide, nm_r (by rw [e4, r4]) ?_⟩⟩⟩⟩
  exact br_c (fun _ => nt_l66 hp hI (by omega) (by omega) (by omega) (by omega) (by omega)) (fun _ => nt_l66 hp hI (by omega) (by omega) (by omega) (by omega) (by omega))
theorem nt_cell {post : Int32 → Prop} {L : Nat} {xs : Nat → Int32} {u : St0} (k : Nat) (hk : k < 4) (hL : L ≤ 4) (H : ∀ r, post r) : wpL_cellAt post L xs u (nI k) :=
  pk_le L k (fun _ => H 0) (fun z => ⟨pk_in k L z, H _⟩)
theorem i_vc (xs : Nat → Int32) (L : Nat) (hL : L ≤ 4) : wpL_law (fun r => r = 1) L xs := by
  unfold wpL_law
  refine nt_cell 0 (by omega) hL (fun r1 => ?_)
  refine nt_cell 1 (by omega) hL (fun r2 => ?_)
  refine nt_cell 2 (by omega) hL (fun r3 => ?_)
  refine nt_cell 3 (by omega) hL (fun r4 => ⟨15, 1334, by omega, by omega, ?_⟩)
  exact nt_lawOf rfl r1 r2 r3 r4
end
