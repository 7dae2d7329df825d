section
/-! ===== small methods ===== -/
section
variable {b f p g k : Int32} {T C M A D : Nat → Int32} {E F : Nat → Int64}
theorem cd_bad {post : Int32 → Prop} {u : St1} {r : Nat} (hr : r < 8) (h : post 0) : wpX_bad post u (nI r) := by
  obtain ⟨b, f, p, g, k, T, C, M, A, D, E, F⟩ := u
  exact br_f (nI_pos (by omega)) (pk_le r 7 (fun _ => h) (fun z => absurd z (by omega)))
theorem cd_setReg {post : St1 → Prop} {r : Nat} {t c : Int32} (hr : r < 8) (h : post (b, f, p, g, k, T, C, M, upd A r t, upd D r c, E, F)) : wpX_setReg post (b, f, p, g, k, T, C, M, A, D, E, F) (nI r) t c :=
  ⟨pk_in r 8 hr, nm_r (by rw [nI_clamp (by omega)]) ⟨pk_in r 8 hr, nm_r (by rw [nI_clamp (by omega)]) h⟩⟩
theorem cd_put {post : St1 → Prop} {a : Nat} {t c : Int32} (ha : a < 320) (h : post (b, f, p, g, k, upd T a t, upd C a c, M, A, D, E, F)) : wpX_put post (b, f, p, g, k, T, C, M, A, D, E, F) (nI a) t c :=
  ⟨pk_in a 320 ha, nm_r (by rw [nI_clamp (by omega)]) ⟨pk_in a 320 ha, nm_r (by rw [nI_clamp (by omega)]) h⟩⟩
theorem cd_put_2 {post : St1 → Prop} {a : Nat} {t c : Int32} (ha : a < 320) (h : post (b, f, p, g, k, upd T a t, upd C a c, M, A, D, E, F)) : wpX_put_2 post (b, f, p, g, k, T, C, M, A, D, E, F) (nI a) t c :=
  ⟨pk_in a 320 ha, nm_r (by rw [nI_clamp (by omega)]) ⟨pk_in a 320 ha, nm_r (by rw [nI_clamp (by omega)]) h⟩⟩
theorem cd_put_3 {post : St1 → Prop} {a : Nat} {t c : Int32} (ha : a < 320) (h : post (b, f, p, g, k, upd T a t, upd C a c, M, A, D, E, F)) : wpX_put_3 post (b, f, p, g, k, T, C, M, A, D, E, F) (nI a) t c :=
  ⟨pk_in a 320 ha, nm_r (by rw [nI_clamp (by omega)]) ⟨pk_in a 320 ha, nm_r (by rw [nI_clamp (by omega)]) h⟩⟩
/-- a settles to s -/
def cd_st (T C : Nat → Int32) (a s : Nat) : Prop := a < 320 ∧ s < 320 ∧ ¬ T s = 3 ∧ (s = a ∨ (T a = 3 ∧ C a = nI s))
theorem cd_settle {post : Int32 → Prop} {a s : Nat} (hs : cd_st T C a s) (h : post (nI s)) : wpX_settle post (b, f, p, g, k, T, C, M, A, D, E, F) (nI a) := by
  obtain ⟨ha, hs, ht, e | ⟨e1, e2⟩⟩ := hs
  · subst e
    exact ⟨1, pk_le 4 0 (fun z => absurd z (by omega)) (fun _ => ⟨pk_in s 320 hs, br_f (by rw [nI_clamp (by omega)]; exact ht) h⟩)⟩
  · exact ⟨2, pk_le 4 0 (fun z => absurd z (by omega)) (fun _ => ⟨pk_in a 320 ha, br_t (by rw [nI_clamp (by omega)]; exact e1) ⟨pk_in a 320 ha, nm_r (e' := nI s) (by rw [nI_clamp (by omega)]; exact e2) (nm_r (e' := nI 1) (by rfl) (pk_le 4 1 (fun z => absurd z (by omega)) (fun _ => ⟨pk_in s 320 hs, br_f (by rw [nI_clamp (by omega)]; exact ht) h⟩)))⟩⟩)⟩
/-- what gotCdr reads -/
def cd_dt (T M : Nat → Int32) (a : Nat) : Int32 := if M a = 0 then T (a + 1) else if M a = 1 then 2 else 0
def cd_dc (C M : Nat → Int32) (a : Nat) : Int32 := if M a = 0 then C (a + 1) else if M a = 1 then nI (a + 1) else 0
theorem cd_gotCar {post : St1 → Prop} {a s : Nat} (hs : cd_st T C a s) (h : post (b, f, p, T s, C s, T, C, M, A, D, E, F)) : wpX_gotCar post (b, f, p, g, k, T, C, M, A, D, E, F) (nI a) := by
  have h2 : s < 320 := hs.2.1
  unfold wpX_gotCar
  refine cd_settle hs ?_
  exact ⟨pk_in s 320 h2, nm_r (by rw [nI_clamp (by omega)]) ⟨pk_in s 320 h2, nm_r (by rw [nI_clamp (by omega)]) h⟩⟩
theorem cd_gotCdr {post : St1 → Prop} {a s : Nat} (hs : cd_st T C a s) (h1 : M s = 0 → s + 1 < 320) (h : post (b, f, p, cd_dt T M s, cd_dc C M s, T, C, M, A, D, E, F)) : wpX_gotCdr post (b, f, p, g, k, T, C, M, A, D, E, F) (nI a) := by
  have h2 : s < 320 := hs.2.1
  have ea : (nI s).toNatClampNeg = s := nI_clamp (by omega)
  have eb : (nI s + 1).toNatClampNeg = s + 1 := by rw [nI_1, nI_clamp (by omega)]
  unfold wpX_gotCdr
  refine cd_settle hs ?_
  refine ⟨pk_in s 320 h2, ?_⟩
  unfold cd_dt cd_dc at h
  by_cases m0 : M s = 0
  · rw [if_pos m0, if_pos m0] at h
    exact br_t (by rw [ea]; exact m0) ⟨pk_in (s + 1) 320 (h1 m0) (nI_1 s), nm_r (by rw [eb]) ⟨pk_in (s + 1) 320 (h1 m0) (nI_1 s), nm_r (by rw [eb]) h⟩⟩
  · rw [if_neg m0, if_neg m0] at h
    refine br_f (by rw [ea]; exact m0) ⟨pk_in s 320 h2, ?_⟩
    by_cases m1 : M s = 1
    · rw [if_pos m1, if_pos m1] at h
      exact br_t (by rw [ea]; exact m1) (nm_r (nI_1 s) h)
    · rw [if_neg m1, if_neg m1] at h
      exact br_f (by rw [ea]; exact m1) h
theorem cd_gotCdr_2 {post : St1 → Prop} {a s : Nat} (hs : cd_st T C a s) (h1 : M s = 0 → s + 1 < 320) (h : post (b, f, p, cd_dt T M s, cd_dc C M s, T, C, M, A, D, E, F)) : wpX_gotCdr_2 post (b, f, p, g, k, T, C, M, A, D, E, F) (nI a) :=
  cd_gotCdr hs h1 h
theorem cd_gotCdr_3 {post : St1 → Prop} {a s : Nat} (hs : cd_st T C a s) (h1 : M s = 0 → s + 1 < 320) (h : post (b, f, p, cd_dt T M s, cd_dc C M s, T, C, M, A, D, E, F)) : wpX_gotCdr_3 post (b, f, p, g, k, T, C, M, A, D, E, F) (nI a) :=
  cd_gotCdr hs h1 h
theorem cd_old_t {post : Int32 → Prop} {lo a : Nat} (h1 : lo ≤ a) (h2 : a < lo + 160) (hl : lo ≤ 160) (h : post 1) : wpX_inOld post (nI lo, f, p, g, k, T, C, M, A, D, E, F) (nI a) :=
  pk_lt a lo (fun z => absurd z (by omega)) (fun _ => pk_le (lo + 160) a (fun z => absurd z (by omega)) (fun _ => h) (nI_add lo 160))
theorem cd_old_f {post : Int32 → Prop} {lo a : Nat} (h1 : a < lo ∨ lo + 160 ≤ a) (ha : a < 320) (hl : lo ≤ 160) (h : post 0) : wpX_inOld post (nI lo, f, p, g, k, T, C, M, A, D, E, F) (nI a) :=
  pk_lt a lo (fun _ => h) (fun _ => pk_le (lo + 160) a (fun _ => h) (fun z => absurd z (by omega)) (nI_add lo 160))
theorem cd_t0 {post : Int32 → Prop} {lo a n j : Nat} (h1 : a < lo ∨ lo + 160 ≤ a) (ha : a < 320) (hl : lo ≤ 160) (hj : j < 4) (h : post (nI a)) : wX_trace_4 post (nI lo) f p g k T C M A D E F (n + 1) (nI a) (nI j) :=
  pk_le 4 j (fun z => absurd z (by omega)) (fun _ => cd_old_f h1 ha hl (br_t rfl h))
theorem cd_t1 {post : Int32 → Prop} {lo a n j : Nat} (h1 : lo ≤ a) (h2 : a < lo + 160) (hl : lo ≤ 160) (hj : j < 4) (hT : ¬ T a = 3) (h : post (nI a)) : wX_trace_4 post (nI lo) f p g k T C M A D E F (n + 1) (nI a) (nI j) :=
  pk_le 4 j (fun z => absurd z (by omega)) (fun _ => cd_old_t h1 h2 hl (br_f (by decide) ⟨pk_in a 320 (by omega), br_f (by rw [nI_clamp (by omega)]; exact hT) h⟩))
theorem cd_t2 {post : Int32 → Prop} {lo a c n j : Nat} (h1 : lo ≤ a) (h2 : a < lo + 160) (hl : lo ≤ 160) (hj : j < 4) (hT : T a = 3) (hC : C a = nI c) (h : wX_trace_4 post (nI lo) f p g k T C M A D E F n (nI c) (nI (j + 1))) : wX_trace_4 post (nI lo) f p g k T C M A D E F (n + 1) (nI a) (nI j) :=
  pk_le 4 j (fun z => absurd z (by omega)) (fun _ => cd_old_t h1 h2 hl (br_f (by decide) ⟨pk_in a 320 (by omega), br_t (by rw [nI_clamp (by omega)]; exact hT) ⟨pk_in a 320 (by omega), nm_r (e' := nI c) (by rw [nI_clamp (by omega)]; exact hC) (nm_r (nI_1 j) h)⟩⟩))
end
end
section
/-! ===== values, kinds, the picture ===== -/
abbrev cd_V : Type := Option (Sum Int32 Nat)
def cd_p (i : Nat) : cd_V := some (Sum.inr i)
def cd_v (nm : Nat → Nat) (t c : Int32) : cd_V := if t = 2 then cd_p (nm c.toNatClampNeg) else if t = 0 then none else some (Sum.inl c)
def cd_ok (R : Nat → Prop) (t c : Int32) : Prop := t = 0 ∨ t = 1 ∨ (t = 2 ∧ ∃ n, c = nI n ∧ R n)
def cd_un (f : Nat → Nat) (k x : Nat) : Nat → Nat := fun j => if j = k then x else f j
def cd_uv (f : Nat → cd_V) (k : Nat) (x : cd_V) : Nat → cd_V := fun j => if j = k then x else f j
def cd_R (K : Nat → Nat) (n : Nat) : Prop := K n = 1 ∨ K n = 2 ∨ K n = 4
def cd_d (nm : Nat → Nat) (T C M : Nat → Int32) (a : Nat) : cd_V := cd_v nm (cd_dt T M a) (cd_dc C M a)
theorem cd_us {f : Nat → Nat} {k x : Nat} : cd_un f k x k = x := if_pos rfl
theorem cd_ud {f : Nat → Nat} {k x j : Nat} (h : j ≠ k) : cd_un f k x j = f j := if_neg h
theorem cd_uvs {f : Nat → cd_V} {k : Nat} {x : cd_V} : cd_uv f k x k = x := if_pos rfl
theorem cd_uvd {f : Nat → cd_V} {k j : Nat} {x : cd_V} (h : j ≠ k) : cd_uv f k x j = f j := if_neg h
theorem cd_v2 {nm : Nat → Nat} {n : Nat} (hn : n < 2 ^ 31) : cd_v nm 2 (nI n) = cd_p (nm n) := by
  unfold cd_v
  rw [if_pos rfl, nI_clamp hn]
theorem cd_v0 {nm : Nat → Nat} {c : Int32} : cd_v nm 0 c = none := by
  unfold cd_v
  rw [if_neg (by decide), if_pos rfl]
theorem cd_v1 {nm : Nat → Nat} {c : Int32} : cd_v nm 1 c = some (Sum.inl c) := by
  unfold cd_v
  rw [if_neg (by decide), if_neg (by decide)]
theorem cd_pi {i j : Nat} (h : cd_p i = cd_p j) : i = j := by
  unfold cd_p at h
  injection h with h
  injection h
theorem cd_pn {i : Nat} : cd_p i ≠ none := by
  unfold cd_p
  exact Option.some_ne_none _
theorem cd_vc {R : Nat → Prop} {nm nm' : Nat → Nat} {t c : Int32} (h : cd_ok R t c) (hR : ∀ n, R n → n < 2 ^ 31 ∧ nm' n = nm n) : cd_v nm' t c = cd_v nm t c := by
  rcases h with rfl | rfl | ⟨rfl, n, rfl, hn⟩
  · rw [cd_v0, cd_v0]
  · rw [cd_v1, cd_v1]
  · rw [cd_v2 (hR n hn).1, cd_v2 (hR n hn).1, (hR n hn).2]
theorem cd_okm {R R' : Nat → Prop} {t c : Int32} (h : cd_ok R t c) (hR : ∀ n, R n → R' n) : cd_ok R' t c := by
  rcases h with e | e | ⟨e, n, e2, hn⟩
  · exact Or.inl e
  · exact Or.inr (Or.inl e)
  · exact Or.inr (Or.inr ⟨e, n, e2, hR n hn⟩)
theorem cd_okn {R : Nat → Prop} {t c : Int32} (h : cd_ok R t c) : ¬ t = 3 := by
  rcases h with rfl | rfl | ⟨rfl, _⟩ <;> decide
theorem cd_ok2 {R : Nat → Prop} {t c : Int32} (h : cd_ok R t c) (e : t = 2) : ∃ n, c = nI n ∧ R n := by
  rcases h with rfl | rfl | ⟨_, h⟩
  · exact absurd e (by decide)
  · exact absurd e (by decide)
  · exact h
theorem cd_vp {R : Nat → Prop} {nm : Nat → Nat} {t c : Int32} {i : Nat} (h : cd_ok R t c) (hR : ∀ n, R n → n < 2 ^ 31) (e : cd_v nm t c = cd_p i) : t = 2 ∧ ∃ n, c = nI n ∧ R n ∧ nm n = i := by
  rcases h with rfl | rfl | ⟨rfl, n, rfl, hn⟩
  · rw [cd_v0] at e
    exact absurd e.symm cd_pn
  · rw [cd_v1] at e
    unfold cd_p at e
    injection e with e
    cases e
  · rw [cd_v2 (hR n hn)] at e
    exact ⟨rfl, n, rfl, hn, cd_pi e⟩
theorem cd_d0 {nm : Nat → Nat} {T C M : Nat → Int32} {a : Nat} (h : M a = 0) : cd_d nm T C M a = cd_v nm (T (a + 1)) (C (a + 1)) := by
  unfold cd_d cd_dt cd_dc
  rw [if_pos h, if_pos h]
theorem cd_d1 {nm : Nat → Nat} {T C M : Nat → Int32} {a : Nat} (h : M a = 1) (ha : a + 1 < 2 ^ 31) : cd_d nm T C M a = cd_p (nm (a + 1)) := by
  have h0 : ¬ M a = 0 := by rw [h]; decide
  unfold cd_d cd_dt cd_dc
  rw [if_neg h0, if_neg h0, if_pos h, if_pos h, cd_v2 ha]
theorem cd_d2 {nm : Nat → Nat} {T C M : Nat → Int32} {a : Nat} (h0 : ¬ M a = 0) (h1 : ¬ M a = 1) : cd_d nm T C M a = none := by
  unfold cd_d cd_dt cd_dc
  rw [if_neg h0, if_neg h0, if_neg h1, if_neg h1, cd_v0]
/-- gotCdr's tag and content are a good value -/
theorem cd_dok {R : Nat → Prop} {T C M : Nat → Int32} {a : Nat} (h0 : M a = 0 → cd_ok R (T (a + 1)) (C (a + 1))) (h1 : M a = 1 → R (a + 1)) : cd_ok R (cd_dt T M a) (cd_dc C M a) := by
  unfold cd_dt cd_dc
  by_cases m0 : M a = 0
  · rw [if_pos m0, if_pos m0]
    exact h0 m0
  · rw [if_neg m0, if_neg m0]
    by_cases m1 : M a = 1
    · rw [if_pos m1, if_pos m1]
      exact Or.inr (Or.inr ⟨rfl, _, rfl, h1 m1⟩)
    · rw [if_neg m1, if_neg m1]
      exact Or.inl rfl
theorem cd_dcg {nm nm' : Nat → Nat} {T C M T' C' M' : Nat → Int32} {a : Nat} (ha : a + 1 < 2 ^ 31) (hM : M' a = M a) (h0 : M a = 0 → cd_v nm' (T' (a + 1)) (C' (a + 1)) = cd_v nm (T (a + 1)) (C (a + 1))) (h1 : M a = 1 → nm' (a + 1) = nm (a + 1)) : cd_d nm' T' C' M' a = cd_d nm T C M a := by
  by_cases m0 : M a = 0
  · rw [cd_d0 m0, cd_d0 (hM.trans m0), h0 m0]
  · have m0' : ¬ M' a = 0 := by rw [hM]; exact m0
    by_cases m1 : M a = 1
    · rw [cd_d1 m1 ha, cd_d1 (hM.trans m1) ha, h1 m1]
    · rw [cd_d2 m0 m1, cd_d2 m0' (by rw [hM]; exact m1)]
theorem cd_len : ∀ (l m : List Nat), l.Nodup → (∀ x, x ∈ l → x ∈ m) → l.length ≤ m.length
  | [], m, _, _ => Nat.zero_le _
  | x :: l, m, hn, hs => by
    have hx : x ∈ m := hs x (List.mem_cons_self)
    have h1 := List.nodup_cons.mp hn
    have h2 := cd_len l (m.erase x) h1.2 (fun y hy => by
      have hne : y ≠ x := fun e => h1.1 (by rw [← e]; exact hy)
      exact (List.mem_erase_of_ne hne).mpr (hs y (List.mem_cons_of_mem _ hy)))
    rw [List.length_erase_of_mem hx] at h2
    have h3 : 0 < m.length := List.length_pos_of_mem hx
    rw [List.length_cons]
    omega
/-- the heap inside collect: old half at b0, new half from to up to fr -/
def cd_CI (b0 to fr : Nat) (K nm : Nat → Nat) (T C M : Nat → Int32) (car cdr : Nat → cd_V) (pc : Option Nat) (ids dn : List Nat) (Q : Nat → Prop) : Prop :=
  (∀ a, K a ≠ 0 → (b0 ≤ a ∧ a < b0 + 160) ∨ (to ≤ a ∧ a < fr)) ∧
  (∀ a, to ≤ a → a < fr → K a = 1 ∨ K a = 3) ∧
  (∀ a, K a = 1 → cd_ok (cd_R K) (T a) (C a) ∧ cd_v nm (T a) (C a) = car (nm a) ∧ nm a ∈ ids ∧
    ((to ≤ a ∧ M a = 1 ∧ a + 1 = fr ∧ ∃ i, pc = some i ∧ cdr (nm a) = cd_p i) ∨
     ((M a = 0 → K (a + 1) = 3) ∧ (M a = 1 → cd_R K (a + 1)) ∧ cd_d nm T C M a = cdr (nm a)))) ∧
  (∀ a, K a = 2 → b0 ≤ a ∧ a < b0 + 160 ∧ T a = 3 ∧ ∃ n, C a = nI n ∧ nm n = nm a ∧ b0 ≤ n ∧ n < b0 + 160 ∧ (K n = 1 ∨ K n = 4)) ∧
  (∀ a, K a = 4 → b0 ≤ a ∧ a < b0 + 160 ∧ T a = 3 ∧ ∃ n, C a = nI n ∧ nm n = nm a ∧ to ≤ n ∧ n < fr ∧ K n = 1) ∧
  (∀ a, K a = 3 → cd_ok (cd_R K) (T a) (C a) ∧ (to ≤ a → a < fr → ∀ i, cd_v nm (T a) (C a) = cd_p i → Q i)) ∧
  (∀ a c, K a = 1 → K c = 1 → nm a = nm c → a = c) ∧
  dn.Nodup ∧
  (∀ a, to ≤ a → a < fr → K a = 1 → nm a ∈ dn) ∧
  (∀ i, i ∈ dn → Q i ∧ ∃ a, to ≤ a ∧ a < fr ∧ K a = 1 ∧ nm a = i) ∧
  to ≤ fr ∧ fr ≤ to + 2 * dn.length ∧ ids.length ≤ 32
theorem cd_CIlen {b0 to fr : Nat} {K nm : Nat → Nat} {T C M : Nat → Int32} {car cdr : Nat → cd_V} {pc : Option Nat} {ids dn : List Nat} {Q : Nat → Prop} (h : cd_CI b0 to fr K nm T C M car cdr pc ids dn Q) : dn.length ≤ 32 := by
  obtain ⟨z1, z2, hd, g2, g4, vl, ij, nd, d1, d2, s0, s1, il⟩ := h
  have : dn.length ≤ ids.length := cd_len dn ids nd (fun i hi => by
    obtain ⟨_, a, _, _, a3, a4⟩ := d2 i hi
    rw [← a4]
    exact (hd a a3).2.2.1)
  omega
theorem cd_CIlen1 {b0 to fr : Nat} {K nm : Nat → Nat} {T C M : Nat → Int32} {car cdr : Nat → cd_V} {pc : Option Nat} {ids dn : List Nat} {Q : Nat → Prop} {c : Nat}
    (hz : (b0 = 0 ∧ to = 160) ∨ (b0 = 160 ∧ to = 0)) (h : cd_CI b0 to fr K nm T C M car cdr pc ids dn Q) (hc : K c = 1) (o1 : b0 ≤ c) (o2 : c < b0 + 160) : nm c ∉ dn ∧ dn.length ≤ 31 := by
  have hl := cd_CIlen h
  obtain ⟨z1, z2, hd, g2, g4, vl, ij, nd, d1, d2, s0, s1, il⟩ := h
  have hn : nm c ∉ dn := fun hin => by
    obtain ⟨_, a, a1, a2, a3, a4⟩ := d2 _ hin
    have := ij a c a3 hc a4
    omega
  refine ⟨hn, ?_⟩
  have : (nm c :: dn).length ≤ ids.length := cd_len _ ids (List.nodup_cons.mpr ⟨hn, nd⟩) (fun i hi => by
    rcases List.mem_cons.mp hi with e | hi
    · rw [e]
      exact (hd c hc).2.2.1
    · obtain ⟨_, a, _, _, a3, a4⟩ := d2 i hi
      rw [← a4]
      exact (hd a a3).2.2.1)
  rw [List.length_cons] at this
  omega
theorem cd_step {b0 to m fr1 : Nat} {K nm K1 nm1 : Nat → Nat} {T C M T1 C1 M1 : Nat → Int32} {car cdr : Nat → cd_V} {pc1 : Option Nat} {ids dn : List Nat} {Q : Nat → Prop} {c : Nat}
    (hz : (b0 = 0 ∧ to = 160) ∨ (b0 = 160 ∧ to = 0)) (h : cd_CI b0 to m K nm T C M car cdr (some (nm c)) ids dn Q)
    (hc : K c = 1) (o1 : b0 ≤ c) (o2 : c < b0 + 160) (hq : Q (nm c)) (hfr : fr1 = m + 1 ∨ fr1 = m + 2)
    (k1 : K1 m = 1) (k2 : K1 c = 4) (k3 : fr1 = m + 2 → K1 (m + 1) = 3) (k4 : ∀ a, a ≠ m → a ≠ c → (fr1 = m + 2 → a ≠ m + 1) → K1 a = K a)
    (n1 : nm1 m = nm c) (n2 : ∀ a, a ≠ m → nm1 a = nm a)
    (t1 : T1 m = T c) (t2 : T1 c = 3) (t3 : ∀ a, a ≠ m → a ≠ c → (fr1 = m + 2 → a ≠ m + 1) → T1 a = T a)
    (c1 : C1 m = C c) (c2 : C1 c = nI m) (c3 : ∀ a, a ≠ m → a ≠ c → (fr1 = m + 2 → a ≠ m + 1) → C1 a = C a)
    (m3 : ∀ a, a ≠ m → (fr1 = m + 2 → a ≠ m + 1) → M1 a = M a)
    (hm : (to ≤ m ∧ M1 m = 1 ∧ m + 1 = fr1 ∧ ∃ i, pc1 = some i ∧ cdr (nm c) = cd_p i) ∨
      ((M1 m = 0 → K1 (m + 1) = 3) ∧ (M1 m = 1 → cd_R K1 (m + 1)) ∧ cd_d nm1 T1 C1 M1 m = cdr (nm c)))
    (hv : fr1 = m + 2 → cd_ok (cd_R K1) (T1 (m + 1)) (C1 (m + 1)) ∧ ∀ i, cd_v nm1 (T1 (m + 1)) (C1 (m + 1)) = cd_p i → Q i) :
    cd_CI b0 to fr1 K1 nm1 T1 C1 M1 car cdr pc1 ids (nm c :: dn) Q := by
  obtain ⟨hn, hl⟩ := cd_CIlen1 hz h hc o1 o2
  obtain ⟨z1, z2, hd, g2, g4, vl, ij, nd, d1, d2, s0, s1, il⟩ := h
  have hne : ∀ n, K n ≠ 0 → n ≠ m ∧ n ≠ m + 1 := fun n hk => by
    have := z1 n hk
    omega
  have hb : ∀ n, K n ≠ 0 → n < 320 := fun n hk => by
    have := z1 n hk
    omega
  have hRk : ∀ n, cd_R K n → K n ≠ 0 := fun n hr => by
    unfold cd_R at hr
    omega
  have hR : ∀ n, cd_R K n → n < 2 ^ 31 ∧ nm1 n = nm n := fun n hr => ⟨by have := hb n (hRk n hr); omega, n2 n (hne n (hRk n hr)).1⟩
  have kk : ∀ n, K n ≠ 0 → n ≠ c → K1 n = K n := fun n hk hnc => k4 n (hne n hk).1 hnc (fun _ => (hne n hk).2)
  have tt : ∀ n, K n ≠ 0 → n ≠ c → T1 n = T n ∧ C1 n = C n := fun n hk hnc => ⟨t3 n (hne n hk).1 hnc (fun _ => (hne n hk).2), c3 n (hne n hk).1 hnc (fun _ => (hne n hk).2)⟩
  have hR' : ∀ n, cd_R K n → cd_R K1 n := fun n hr => by
    by_cases e : n = c
    · rw [e]
      exact Or.inr (Or.inr k2)
    · unfold cd_R
      rw [kk n (hRk n hr) e]
      exact hr
  have hinv : ∀ a, K1 a ≠ 0 → a = m ∨ a = c ∨ (fr1 = m + 2 ∧ a = m + 1) ∨ (a ≠ m ∧ a ≠ c ∧ a ≠ m + 1 ∧ K1 a = K a) := fun a hk => by
    by_cases e1 : a = m
    · exact Or.inl e1
    by_cases e2 : a = c
    · exact Or.inr (Or.inl e2)
    by_cases e3 : fr1 = m + 2 ∧ a = m + 1
    · exact Or.inr (Or.inr (Or.inl e3))
    have e4 : K1 a = K a := k4 a e1 e2 (fun z z2 => e3 ⟨z, z2⟩)
    exact Or.inr (Or.inr (Or.inr ⟨e1, e2, (hne a (by rw [← e4]; exact hk)).2, e4⟩))
  have cm : c ≠ m := (hne c (by omega)).1
  have cm1 : c ≠ m + 1 := (hne c (by omega)).2
  refine ⟨?_, ?_, ?_, ?_, ?_, ?_, ?_, ?_, ?_, ?_, ?_, ?_, il⟩
  · intro a hk
    rcases hinv a hk with e | e | e | ⟨_, _, _, e⟩
    · omega
    · omega
    · omega
    · have := z1 a (by omega)
      omega
  · intro a h1 h2
    by_cases e1 : a = m
    · rw [e1]
      exact Or.inl k1
    by_cases e2 : a < m
    · have := z2 a h1 e2
      rw [kk a (by omega) (by omega)]
      exact this
    · have e3 : a = m + 1 := by omega
      rw [e3]
      exact Or.inr (k3 (by omega))
  · intro a hk
    rcases hinv a (by omega) with e | e | e | ⟨e1, e2, e3, e4⟩
    · rw [e]
      obtain ⟨x1, x2, x3, _⟩ := hd c hc
      refine ⟨?_, ?_, ?_, ?_⟩
      · rw [t1, c1]
        exact cd_okm x1 hR'
      · rw [t1, c1, n1, cd_vc x1 hR]
        exact x2
      · rw [n1]
        exact x3
      · rw [n1]
        exact hm
    · rw [e] at hk
      omega
    · obtain ⟨e, e'⟩ := e
      rw [e'] at hk
      have := k3 e
      omega
    · have hk0 : K a = 1 := by rw [← e4]; exact hk
      obtain ⟨x1, x2, x3, x4⟩ := hd a hk0
      have ta := tt a (by omega) e2
      have na : nm1 a = nm a := n2 a e1
      have ma : M1 a = M a := m3 a e1 (fun _ => e3)
      refine ⟨?_, ?_, ?_, Or.inr ?_⟩
      · rw [ta.1, ta.2]
        exact cd_okm x1 hR'
      · rw [ta.1, ta.2, na, cd_vc x1 hR]
        exact x2
      · rw [na]
        exact x3
      · rw [ma, na]
        have hba := hb a (by omega)
        rcases x4 with ⟨_, y1, y2, i, y3, y4⟩ | ⟨y1, y2, y3⟩
        · refine ⟨fun z => absurd (y1.symm.trans z) (by decide), fun _ => ?_, ?_⟩
          · rw [y2]
            exact Or.inl k1
          · rw [cd_d1 (ma.trans y1) (by omega), y2, n1, y4]
            injection y3 with y3
            rw [y3]
        · refine ⟨fun z => ?_, fun z => hR' _ (y2 z), ?_⟩
          · have := y1 z
            rw [kk (a + 1) (by omega) (fun q => by rw [q] at this; omega)]
            exact this
          · rw [← y3]
            refine cd_dcg (by omega) ma (fun z => ?_) (fun z => (hR _ (y2 z)).2)
            have y := y1 z
            have tb := tt (a + 1) (by omega) (fun q => by rw [q] at y; omega)
            rw [tb.1, tb.2]
            exact cd_vc (vl _ y).1 hR
  · intro a hk
    rcases hinv a (by omega) with e | e | e | ⟨e1, e2, e3, e4⟩
    · rw [e] at hk
      omega
    · rw [e] at hk
      omega
    · obtain ⟨e, e'⟩ := e
      rw [e'] at hk
      have := k3 e
      omega
    · have hk0 : K a = 2 := by rw [← e4]; exact hk
      obtain ⟨x1, x2, x3, n, x4, x5, x6, x7, x8⟩ := g2 a hk0
      have ta := tt a (by omega) e2
      have hn0 : K n ≠ 0 := by omega
      refine ⟨x1, x2, by rw [ta.1]; exact x3, n, by rw [ta.2]; exact x4, by rw [n2 n (hne n hn0).1, n2 a e1]; exact x5, x6, x7, ?_⟩
      by_cases en : n = c
      · rw [en]
        exact Or.inr k2
      · rw [kk n hn0 en]
        exact x8
  · intro a hk
    rcases hinv a (by omega) with e | e | e | ⟨e1, e2, e3, e4⟩
    · rw [e] at hk
      omega
    · rw [e]
      exact ⟨o1, o2, t2, m, c2, by rw [n1, n2 c cm], by omega, by omega, k1⟩
    · obtain ⟨e, e'⟩ := e
      rw [e'] at hk
      have := k3 e
      omega
    · have hk0 : K a = 4 := by rw [← e4]; exact hk
      obtain ⟨x1, x2, x3, n, x4, x5, x6, x7, x8⟩ := g4 a hk0
      have ta := tt a (by omega) e2
      have hnc : n ≠ c := by omega
      exact ⟨x1, x2, by rw [ta.1]; exact x3, n, by rw [ta.2]; exact x4, by rw [n2 n (by omega), n2 a e1]; exact x5, x6, by omega, by rw [kk n (by omega) hnc]; exact x8⟩
  · intro a hk
    rcases hinv a (by omega) with e | e | e | ⟨e1, e2, e3, e4⟩
    · rw [e] at hk
      omega
    · rw [e] at hk
      omega
    · obtain ⟨e, e'⟩ := e
      rw [e']
      exact ⟨(hv e).1, fun _ _ => (hv e).2⟩
    · have hk0 : K a = 3 := by rw [← e4]; exact hk
      obtain ⟨x1, x2⟩ := vl a hk0
      have ta := tt a (by omega) e2
      rw [ta.1, ta.2]
      refine ⟨cd_okm x1 hR', fun q1 q2 i q3 => x2 q1 (by omega) i ?_⟩
      rw [cd_vc x1 hR] at q3
      exact q3
  · intro x y hx hy hxy
    have aux : ∀ w, K1 w = 1 → w = m ∨ (w ≠ m ∧ K w = 1 ∧ w ≠ c) := fun w hw => by
      rcases hinv w (by omega) with e | e | e | ⟨e1, e2, e3, e4⟩
      · exact Or.inl e
      · rw [e] at hw
        omega
      · obtain ⟨e, e'⟩ := e
        rw [e'] at hw
        have := k3 e
        omega
      · exact Or.inr ⟨e1, by omega, e2⟩
    rcases aux x hx with ex | ⟨ex1, ex2, ex3⟩
    · rcases aux y hy with ey | ⟨ey1, ey2, ey3⟩
      · omega
      · rw [ex, n1, n2 y ey1] at hxy
        exact absurd (ij c y hc ey2 hxy) (by omega)
    · rcases aux y hy with ey | ⟨ey1, ey2, ey3⟩
      · rw [ey, n1, n2 x ex1] at hxy
        exact absurd (ij x c ex2 hc hxy) (by omega)
      · rw [n2 x ex1, n2 y ey1] at hxy
        exact ij x y ex2 ey2 hxy
  · exact List.nodup_cons.mpr ⟨hn, nd⟩
  · intro a q1 q2 hk
    rcases hinv a (by omega) with e | e | e | ⟨e1, e2, e3, e4⟩
    · rw [e, n1]
      exact List.mem_cons_self
    · rw [e] at hk
      omega
    · obtain ⟨e, e'⟩ := e
      rw [e'] at hk
      have := k3 e
      omega
    · rw [n2 a e1]
      exact List.mem_cons_of_mem _ (d1 a q1 (by omega) (by omega))
  · intro i hi
    rcases List.mem_cons.mp hi with e | hi
    · rw [e]
      exact ⟨hq, m, by omega, by omega, k1, n1⟩
    · obtain ⟨q, a, a1, a2, a3, a4⟩ := d2 i hi
      refine ⟨q, a, a1, by omega, ?_, by rw [n2 a (by omega)]; exact a4⟩
      rw [kk a (by omega) (by omega)]
      exact a3
  · omega
  · rw [List.length_cons]
    omega
end
section
/-! ===== the step of carry, its frame, trace ===== -/
def cd_F (to fr fr' : Nat) (K nm K' nm' : Nat → Nat) (T C T' C' : Nat → Int32) : Prop :=
  fr ≤ fr' ∧ (∀ a, cd_R K a → cd_R K' a ∧ nm' a = nm a) ∧ (∀ a, to ≤ a → a < fr → T' a = T a ∧ C' a = C a ∧ K' a = K a)
theorem cd_F0 {to fr : Nat} {K nm : Nat → Nat} {T C : Nat → Int32} : cd_F to fr fr K nm K nm T C T C :=
  ⟨Nat.le_refl _, fun _ h => ⟨h, rfl⟩, fun _ _ _ => ⟨rfl, rfl, rfl⟩⟩
theorem cd_Ft {to f0 f1 f2 : Nat} {K0 n0 K1 n1 K2 n2 : Nat → Nat} {T0 C0 T1 C1 T2 C2 : Nat → Int32} (h : cd_F to f0 f1 K0 n0 K1 n1 T0 C0 T1 C1) (h' : cd_F to f1 f2 K1 n1 K2 n2 T1 C1 T2 C2) : cd_F to f0 f2 K0 n0 K2 n2 T0 C0 T2 C2 := by
  obtain ⟨a1, a2, a3⟩ := h
  obtain ⟨b1, b2, b3⟩ := h'
  refine ⟨by omega, fun a ha => ?_, fun a h1 h2 => ?_⟩
  · obtain ⟨x1, x2⟩ := a2 a ha
    obtain ⟨y1, y2⟩ := b2 a x1
    exact ⟨y1, y2.trans x2⟩
  · obtain ⟨x1, x2, x3⟩ := a3 a h1 h2
    obtain ⟨y1, y2, y3⟩ := b3 a h1 (by omega)
    exact ⟨y1.trans x1, y2.trans x2, y3.trans x3⟩
section
variable {b0 to m : Nat} {K nm : Nat → Nat} {T C M : Nat → Int32} {car cdr : Nat → cd_V} {ids dn : List Nat} {Q : Nat → Prop} {c : Nat}
theorem cd_stepF {K1 nm1 : Nat → Nat} {T1 C1 : Nat → Int32} {fr1 : Nat} {pc : Option Nat} (hz : (b0 = 0 ∧ to = 160) ∨ (b0 = 160 ∧ to = 0)) (h : cd_CI b0 to m K nm T C M car cdr pc ids dn Q)
    (hc : K c = 1) (o1 : b0 ≤ c) (o2 : c < b0 + 160) (hfr : m ≤ fr1)
    (k2 : K1 c = 4) (k4 : ∀ a, a ≠ m → a ≠ c → a ≠ m + 1 → K1 a = K a) (n2 : ∀ a, a ≠ m → nm1 a = nm a)
    (t3 : ∀ a, a ≠ m → a ≠ c → a ≠ m + 1 → T1 a = T a) (c3 : ∀ a, a ≠ m → a ≠ c → a ≠ m + 1 → C1 a = C a) : cd_F to m fr1 K nm K1 nm1 T C T1 C1 := by
  obtain ⟨hn, hl⟩ := cd_CIlen1 hz h hc o1 o2
  obtain ⟨z1, z2, hd, g2, g4, vl, ij, nd, d1, d2, s0, s1, il⟩ := h
  refine ⟨hfr, fun a ha => ?_, fun a h1 h2 => ?_⟩
  · have hk : K a ≠ 0 := by
      unfold cd_R at ha
      omega
    have hz1 := z1 a hk
    have ham : a ≠ m := by omega
    refine ⟨?_, n2 a ham⟩
    by_cases e : a = c
    · rw [e]
      exact Or.inr (Or.inr k2)
    · unfold cd_R
      rw [k4 a ham e (by omega)]
      exact ha
  · exact ⟨t3 a (by omega) (by omega) (by omega), c3 a (by omega) (by omega) (by omega), k4 a (by omega) (by omega) (by omega)⟩
theorem cd_stepA {x : Int32} {pc1 : Option Nat} (hz : (b0 = 0 ∧ to = 160) ∨ (b0 = 160 ∧ to = 0)) (h : cd_CI b0 to m K nm T C M car cdr (some (nm c)) ids dn Q)
    (hc : K c = 1) (o1 : b0 ≤ c) (o2 : c < b0 + 160) (hq : Q (nm c))
    (hx : (x = 1 ∧ ∃ i, pc1 = some i ∧ cdr (nm c) = cd_p i) ∨ (x = 2 ∧ cdr (nm c) = none)) :
    cd_CI b0 to (m + 1) (cd_un (cd_un K m 1) c 4) (cd_un nm m (nm c)) (upd (upd T m (T c)) c 3) (upd (upd C m (C c)) c (nI m)) (upd M m x) car cdr pc1 ids (nm c :: dn) Q ∧
    cd_F to m (m + 1) K nm (cd_un (cd_un K m 1) c 4) (cd_un nm m (nm c)) T C (upd (upd T m (T c)) c 3) (upd (upd C m (C c)) c (nI m)) := by
  have hl := cd_CIlen1 hz h hc o1 o2
  have s0 : to ≤ m := h.2.2.2.2.2.2.2.2.2.2.1
  have s1 : m ≤ to + 2 * dn.length := h.2.2.2.2.2.2.2.2.2.2.2.1
  have cm : c ≠ m := by omega
  have K1 : ∀ a, a ≠ m → a ≠ c → cd_un (cd_un K m 1) c 4 a = K a := fun a e1 e2 => by rw [cd_ud e2, cd_ud e1]
  have T1 : ∀ a, a ≠ m → a ≠ c → upd (upd T m (T c)) c 3 a = T a := fun a e1 e2 => by rw [pk_un e2, pk_un e1]
  have C1 : ∀ a, a ≠ m → a ≠ c → upd (upd C m (C c)) c (nI m) a = C a := fun a e1 e2 => by rw [pk_un e2, pk_un e1]
  refine ⟨cd_step hz h hc o1 o2 hq (Or.inl rfl) (by rw [cd_ud cm.symm, cd_us]) cd_us (fun z => absurd z (by omega)) (fun a e1 e2 _ => K1 a e1 e2) cd_us (fun a e1 => cd_ud e1) (by rw [pk_un cm.symm, pk_us]) pk_us (fun a e1 e2 _ => T1 a e1 e2) (by rw [pk_un cm.symm, pk_us]) pk_us (fun a e1 e2 _ => C1 a e1 e2) (fun a e1 _ => pk_un e1) ?_ (fun z => absurd z (by omega)),
    cd_stepF hz h hc o1 o2 (by omega) cd_us (fun a e1 e2 _ => K1 a e1 e2) (fun a e1 => cd_ud e1) (fun a e1 e2 _ => T1 a e1 e2) (fun a e1 e2 _ => C1 a e1 e2)⟩
  rw [pk_us]
  rcases hx with ⟨hx, hi⟩ | ⟨hx, hi⟩
  · exact Or.inl ⟨s0, hx, rfl, hi⟩
  · refine Or.inr ⟨fun z => absurd (hx.symm.trans z) (by decide), fun z => absurd (hx.symm.trans z) (by decide), ?_⟩
    rw [hi, cd_d2 (by rw [pk_us, hx]; decide) (by rw [pk_us, hx]; decide)]
theorem cd_stepC {gt gc : Int32} (hz : (b0 = 0 ∧ to = 160) ∨ (b0 = 160 ∧ to = 0)) (h : cd_CI b0 to m K nm T C M car cdr (some (nm c)) ids dn Q)
    (hc : K c = 1) (o1 : b0 ≤ c) (o2 : c < b0 + 160) (hq : Q (nm c)) (q2 : ∀ i j, Q i → cdr i = cd_p j → Q j)
    (hok : cd_ok (cd_R (cd_un (cd_un K m 1) c 4)) gt gc) (hcv : cd_v (cd_un nm m (nm c)) gt gc = cdr (nm c)) :
    cd_CI b0 to (m + 2) (cd_un (cd_un (cd_un K m 1) c 4) (m + 1) 3) (cd_un nm m (nm c)) (upd (upd (upd T m (T c)) c 3) (m + 1) gt) (upd (upd (upd C m (C c)) c (nI m)) (m + 1) gc) (upd (upd M m 0) (m + 1) 2) car cdr none ids (nm c :: dn) Q ∧
    cd_F to m (m + 2) K nm (cd_un (cd_un (cd_un K m 1) c 4) (m + 1) 3) (cd_un nm m (nm c)) T C (upd (upd (upd T m (T c)) c 3) (m + 1) gt) (upd (upd (upd C m (C c)) c (nI m)) (m + 1) gc) := by
  have hl := cd_CIlen1 hz h hc o1 o2
  have s0 : to ≤ m := h.2.2.2.2.2.2.2.2.2.2.1
  have s1 : m ≤ to + 2 * dn.length := h.2.2.2.2.2.2.2.2.2.2.2.1
  have z1 := h.1
  have cm : c ≠ m := by omega
  have cm1 : c ≠ m + 1 := by omega
  have mm : m ≠ m + 1 := by omega
  have K1 : ∀ a, a ≠ m → a ≠ c → a ≠ m + 1 → cd_un (cd_un (cd_un K m 1) c 4) (m + 1) 3 a = K a := fun a e1 e2 e3 => by rw [cd_ud e3, cd_ud e2, cd_ud e1]
  have T1 : ∀ a, a ≠ m → a ≠ c → a ≠ m + 1 → upd (upd (upd T m (T c)) c 3) (m + 1) gt a = T a := fun a e1 e2 e3 => by rw [pk_un e3, pk_un e2, pk_un e1]
  have C1 : ∀ a, a ≠ m → a ≠ c → a ≠ m + 1 → upd (upd (upd C m (C c)) c (nI m)) (m + 1) gc a = C a := fun a e1 e2 e3 => by rw [pk_un e3, pk_un e2, pk_un e1]
  have km1 : K (m + 1) = 0 := Classical.byContradiction fun e => by
    have := z1 _ e
    omega
  have hok' : cd_ok (cd_R (cd_un (cd_un (cd_un K m 1) c 4) (m + 1) 3)) gt gc := cd_okm hok (fun n hn => by
    have e : n ≠ m + 1 := fun e => by
      unfold cd_R at hn
      rw [e, cd_ud cm1.symm, cd_ud mm.symm, km1] at hn
      omega
    unfold cd_R
    rw [cd_ud e]
    exact hn)
  refine ⟨cd_step hz h hc o1 o2 hq (Or.inr rfl) (by rw [cd_ud mm, cd_ud cm.symm, cd_us]) (by rw [cd_ud cm1, cd_us]) (fun _ => cd_us) (fun a e1 e2 e3 => K1 a e1 e2 (e3 rfl)) cd_us (fun a e1 => cd_ud e1) (by rw [pk_un mm, pk_un cm.symm, pk_us]) (by rw [pk_un cm1, pk_us]) (fun a e1 e2 e3 => T1 a e1 e2 (e3 rfl)) (by rw [pk_un mm, pk_un cm.symm, pk_us]) (by rw [pk_un cm1, pk_us]) (fun a e1 e2 e3 => C1 a e1 e2 (e3 rfl)) (fun a e1 e2 => by rw [pk_un (e2 rfl), pk_un e1]) (Or.inr ?_) (fun _ => ?_),
    cd_stepF hz h hc o1 o2 (by omega) (by rw [cd_ud cm1, cd_us]) K1 (fun a e1 => cd_ud e1) T1 C1⟩
  · have e0 : upd (upd M m 0) (m + 1) 2 m = 0 := by rw [pk_un mm, pk_us]
    refine ⟨fun _ => cd_us, fun z => absurd (e0.symm.trans z) (by decide), ?_⟩
    rw [cd_d0 e0, pk_us, pk_us]
    exact hcv
  · rw [pk_us, pk_us]
    exact ⟨hok', fun i hi => q2 _ _ hq (hcv.symm.trans hi)⟩
theorem cd_trace {pc : Option Nat} {a : Nat} (hz : (b0 = 0 ∧ to = 160) ∨ (b0 = 160 ∧ to = 0)) (h : cd_CI b0 to m K nm T C M car cdr pc ids dn Q) (ha : cd_R K a) :
    ∃ r, K r = 1 ∧ nm r = nm a ∧ r < 320 ∧ ∀ (post : Int32 → Prop) (f p g k : Int32) (M' A D : Nat → Int32) (E F : Nat → Int64), post (nI r) → wpX_trace post (nI b0, f, p, g, k, T, C, M', A, D, E, F) (nI a) := by
  have hl := cd_CIlen h
  obtain ⟨z1, z2, hd, g2, g4, vl, ij, nd, d1, d2, s0, s1, il⟩ := h
  have hb : ∀ n, K n ≠ 0 → n < 320 := fun n hk => by
    have := z1 n hk
    omega
  rcases ha with ha | ha | ha
  · have hT := cd_okn (hd a ha).1
    have hz1 := z1 a (by omega)
    refine ⟨a, ha, rfl, hb a (by omega), fun post f p g k M' A D E F hp => ?_⟩
    by_cases o : b0 ≤ a ∧ a < b0 + 160
    · exact ⟨1, cd_t1 (j := 0) o.1 o.2 (by omega) (by omega) hT hp⟩
    · exact ⟨1, cd_t0 (j := 0) (by omega) (hb a (by omega)) (by omega) (by omega) hp⟩
  · obtain ⟨x1, x2, x3, n, x4, x5, x6, x7, x8⟩ := g2 a ha
    rcases x8 with x8 | x8
    · have hT := cd_okn (hd n x8).1
      exact ⟨n, x8, x5, hb n (by omega), fun post f p g k M' A D E F hp => ⟨2, cd_t2 (j := 0) x1 x2 (by omega) (by omega) x3 x4 (cd_t1 (j := 1) x6 x7 (by omega) (by omega) hT hp)⟩⟩
    · obtain ⟨y1, y2, y3, r, y4, y5, y6, y7, y8⟩ := g4 n x8
      exact ⟨r, y8, y5.trans x5, hb r (by omega), fun post f p g k M' A D E F hp => ⟨3, cd_t2 (j := 0) x1 x2 (by omega) (by omega) x3 x4 (cd_t2 (j := 1) y1 y2 (by omega) (by omega) y3 y4 (cd_t0 (j := 2) (by omega) (hb r (by omega)) (by omega) (by omega) hp))⟩⟩
  · obtain ⟨y1, y2, y3, r, y4, y5, y6, y7, y8⟩ := g4 a ha
    exact ⟨r, y8, y5, hb r (by omega), fun post f p g k M' A D E F hp => ⟨2, cd_t2 (j := 0) y1 y2 (by omega) (by omega) y3 y4 (cd_t0 (j := 1) (by omega) (hb r (by omega)) (by omega) (by omega) hp)⟩⟩
end
end
section
/-! ===== the walk of carry ===== -/
section
variable {post : Int32 → St1 → Prop} {J : Int32 → Int32 → Int32 → Int32 → Int32 → Int32 → Int32 → Int32 → (Nat → Int32) → (Nat → Int32) → (Nat → Int32) → (Nat → Int32) → (Nat → Int32) → (Nat → Int64) → (Nat → Int64) → Prop} {b p g k x2 x3 x4 : Int32} {T C M A D : Nat → Int32} {E F : Nat → Int64}
theorem cd_c205 {i m : Nat} {z0 z1 : Int32} (hm : m < 320) (h : J x2 0 (nI (i + 1)) b (nI (m + 1)) p g k (upd T m z1) (upd C m z0) (upd M m 2) A D E F) : wX_carry_205 post J x2 x3 (nI i) z0 z1 (nI m) b (nI m) p g k T C M A D E F := by
  unfold wX_carry_205
  refine cd_put hm ?_
  exact ⟨pk_in m 320 hm, nm_r (by rw [nI_clamp (by omega)]) (nm_r (nI_1 m) (nm_r (nI_1 i) h))⟩
theorem cd_c171 {i a m : Nat} {x7 : Int32} (ha : a < 320) (hm : m < 320) (h : J x2 0 (nI (i + 1)) b (nI (m + 1)) p g k (upd T m g) (upd C m (if g = 2 then x7 else k)) (upd (upd M a 0) m 2) A D E F) : wX_carry_171 post J x2 x3 (nI i) (nI a) x7 b (nI m) p g k T C M A D E F := by
  unfold wX_carry_171
  refine ⟨pk_in a 320 ha, nm_r (e' := upd M a 0) (by rw [nI_clamp (by omega)]) ?_⟩
  refine br_c (fun e => ?_) (fun e => ?_)
  · rw [if_pos e] at h
    exact cd_c205 hm h
  · rw [if_neg e] at h
    exact cd_c205 hm h
theorem cd_cx {n i : Nat} {f : Int32} (h : post x3 (b, f, p, g, k, T, C, M, A, D, E, F)) (hi : i < 2 ^ 31) : wX_carry_27 post x3 (n + 1) x2 0 (nI i) b f p g k T C M A D E F :=
  pk_le 160 i (fun _ => h) (fun _ => br_t rfl h)
end
theorem cd_cl {post : Int32 → St1 → Prop} {b0 to x3 i0 fr0 : Nat} {car cdr : Nat → cd_V} {ids : List Nat} {Q : Nat → Prop} {K0 nm0 : Nat → Nat} {T0 C0 A D : Nat → Int32} {E F : Nat → Int64}
    (hz : (b0 = 0 ∧ to = 160) ∨ (b0 = 160 ∧ to = 0)) (q2 : ∀ i j, Q i → cdr i = cd_p j → Q j)
    (H : ∀ (fr : Nat) (dn : List Nat) (K nm : Nat → Nat) (T C M : Nat → Int32) (g k : Int32), cd_CI b0 to fr K nm T C M car cdr none ids dn Q → cd_F to fr0 fr K0 nm0 K nm T0 C0 T C → to ≤ x3 → x3 < fr → K x3 = 1 → nm x3 = i0 → post (nI x3) (nI b0, nI fr, nI dn.length, g, k, T, C, M, A, D, E, F)) :
    ∀ (n c i fr : Nat) (dn : List Nat) (K nm : Nat → Nat) (T C M : Nat → Int32) (g k : Int32), cd_CI b0 to fr K nm T C M car cdr (some (nm c)) ids dn Q → cd_F to fr0 fr K0 nm0 K nm T0 C0 T C → K c = 1 → b0 ≤ c → c < b0 + 160 → Q (nm c) → i ≤ dn.length → 33 ≤ n + dn.length → ((x3 = fr ∧ nm c = i0) ∨ (to ≤ x3 ∧ x3 < fr ∧ K x3 = 1 ∧ nm x3 = i0)) →
      wX_carry_27 post (nI x3) n (nI c) 1 (nI i) (nI b0) (nI fr) (nI dn.length) g k T C M A D E F := by
  intro n
  induction n with
  | zero =>
    intro c i fr dn K nm T C M g k h hF hc o1 o2 hq hi hn hx
    have := cd_CIlen h
    omega
  | succ n ih =>
    intro c i m dn K nm T C M g k h hF hc o1 o2 hq hi hn hx
    obtain ⟨hnm, hl⟩ := cd_CIlen1 hz h hc o1 o2
    have s0 : to ≤ m := h.2.2.2.2.2.2.2.2.2.2.1
    have s1 : m ≤ to + 2 * dn.length := h.2.2.2.2.2.2.2.2.2.2.2.1
    have z1 := h.1
    obtain ⟨x1, x2, x3', x4⟩ := h.2.2.1 c hc
    have vl := h.2.2.2.2.2.1
    have cm : c ≠ m := by omega
    have hb : ∀ a, cd_R K a → a < 2 ^ 31 := fun a ha => by
      have := z1 a (by unfold cd_R at ha; omega)
      omega
    have hne : ∀ a, K a ≠ 0 → a ≠ m := fun a ha => by
      have := z1 a ha
      omega
    have x4' : (M c = 0 → K (c + 1) = 3) ∧ (M c = 1 → cd_R K (c + 1)) ∧ cd_d nm T C M c = cdr (nm c) := by
      rcases x4 with ⟨y0, y1, y2, _⟩ | x4
      · omega
      · exact x4
    obtain ⟨y1, y2, y3⟩ := x4'
    have e1 : cd_dt (upd T m (T c)) M c = cd_dt T M c := by
      unfold cd_dt
      by_cases m0 : M c = 0
      · rw [if_pos m0, if_pos m0, pk_un (hne _ (by rw [y1 m0]; omega))]
      · rw [if_neg m0, if_neg m0]
    have e2 : cd_dc (upd C m (C c)) M c = cd_dc C M c := by
      unfold cd_dc
      by_cases m0 : M c = 0
      · rw [if_pos m0, if_pos m0, pk_un (hne _ (by rw [y1 m0]; omega))]
      · rw [if_neg m0, if_neg m0]
    have hok : cd_ok (cd_R K) (cd_dt T M c) (cd_dc C M c) := cd_dok (fun z => (vl _ (y1 z)).1) y2
    have hcd : cd_v nm (cd_dt T M c) (cd_dc C M c) = cdr (nm c) := y3
    have hst : cd_st (upd T m (T c)) (upd C m (C c)) c c := ⟨by omega, by omega, by rw [pk_un cm]; exact cd_okn x1, Or.inl rfl⟩
    have hm1 : M c = 0 → c + 1 < 320 := fun z => by
      have := z1 (c + 1) (by rw [y1 z]; omega)
      omega
    have hx' : ∀ (fr' : Nat) (K' nm' : Nat → Nat) (T' C' : Nat → Int32), K' m = 1 → nm' m = nm c → m < fr' → cd_F to m fr' K nm K' nm' T C T' C' → to ≤ x3 ∧ x3 < fr' ∧ K' x3 = 1 ∧ nm' x3 = i0 := fun fr' K' nm' T' C' k1 k2 k3 k4 => by
      rcases hx with ⟨w1, w2⟩ | ⟨w1, w2, w3, w4⟩
      · rw [w1]
        exact ⟨s0, k3, k1, k2.trans w2⟩
      · obtain ⟨j1, j2, j3⟩ := k4
        exact ⟨w1, by omega, by rw [(j3 x3 w1 w2).2.2]; exact w3, by rw [(j2 x3 (Or.inl w3)).2]; exact w4⟩
    obtain ⟨n, rfl⟩ : ∃ n', n = n' + 1 := ⟨n - 1, by omega⟩
    refine pk_le 160 i (fun z => absurd z (by omega)) (fun _ => br_f (by decide) (nm_r (nI_1 m) (nm_r (nI_1 dn.length) ⟨pk_in c 320 (by omega), pk_in c 320 (by omega), ?_⟩)))
    rw [nI_clamp (show c < 2 ^ 31 by omega)]
    refine cd_put (show m < 320 by omega) (cd_gotCdr_2 hst hm1 ?_)
    rw [e1, e2]
    refine cd_put (show c < 320 by omega) ?_
    revert hok hcd
    generalize cd_dt T M c = gt
    generalize cd_dc C M c = gc
    intro hok hcd
    have k1 : cd_un (cd_un K m 1) c 4 m = 1 := by rw [cd_ud cm.symm, cd_us]
    have hnm1 : ∀ a, cd_R K a → a < 2 ^ 31 ∧ cd_un nm m (nm c) a = nm a := fun a ha => ⟨hb a ha, cd_ud (hne a (by unfold cd_R at ha; omega))⟩
    have hR1 : ∀ a, cd_R K a → cd_R (cd_un (cd_un K m 1) c 4) a := fun a ha => by
      by_cases e : a = c
      · rw [e]
        exact Or.inr (Or.inr cd_us)
      · unfold cd_R
        rw [cd_ud e, cd_ud (hne a (by unfold cd_R at ha; omega))]
        exact ha
    have mm : m ≠ m + 1 := by omega
    rcases hok with e | e | ⟨e, w, ew, hw⟩
    · -- nil
      subst e
      rw [cd_v0] at hcd
      refine br_f (by decide) ?_
      unfold wX_carry_117
      refine br_t rfl ⟨pk_in m 320 (by omega), nm_r (e' := upd M m 2) (by rw [nI_clamp (by omega)]) (nm_r (nI_1 i) (cd_cx ?_ (by omega)))⟩
      obtain ⟨h1, h2⟩ := cd_stepA (x := 2) (pc1 := none) hz h hc o1 o2 hq (Or.inr ⟨rfl, hcd.symm⟩)
      obtain ⟨w1, w2, w3, w4⟩ := hx' _ _ _ _ _ k1 cd_us (by omega) h2
      exact H _ _ _ _ _ _ _ _ _ h1 (cd_Ft hF h2) w1 w2 w3 w4
    · -- a number
      subst e
      refine br_f (by decide) ?_
      unfold wX_carry_117
      refine br_f (by decide) (br_f (by decide) (cd_c171 (by omega) (by omega) ?_))
      rw [if_neg (show ¬ (1 : Int32) = 2 by decide)]
      refine cd_cx ?_ (by omega)
      obtain ⟨h1, h2⟩ := cd_stepC (gt := 1) (gc := gc) hz h hc o1 o2 hq q2 (Or.inr (Or.inl rfl)) (by rw [← hcd, cd_v1, cd_v1])
      obtain ⟨w1, w2, w3, w4⟩ := hx' _ _ _ _ _ (by rw [cd_ud mm]; exact k1) cd_us (by omega) h2
      exact H _ _ _ _ _ _ _ _ _ h1 (cd_Ft hF h2) w1 w2 w3 w4
    · -- a pair
      subst e
      subst ew
      rw [cd_v2 (hb w hw)] at hcd
      obtain ⟨h1, h2⟩ := cd_stepA (x := 1) (pc1 := some (nm w)) hz h hc o1 o2 hq (Or.inl ⟨rfl, nm w, rfl, hcd.symm⟩)
      obtain ⟨r, r1, r2, r3, r4⟩ := cd_trace hz h1 (hR1 w hw)
      rw [(hnm1 w hw).2] at r2
      have hqr : Q (nm w) := q2 _ _ hq hcd.symm
      refine br_t rfl (r4 _ _ _ _ _ _ _ _ _ _ ?_)
      unfold wX_carry_117
      refine br_f (by decide) (br_t rfl ?_)
      by_cases o : b0 ≤ r ∧ r < b0 + 160
      · refine cd_old_t o.1 o.2 (by omega) (br_f (by decide) ⟨pk_in m 320 (by omega), nm_r (e' := upd M m 1) (by rw [nI_clamp (by omega)]) (nm_r (nI_1 i) ?_)⟩)
        rw [← r2] at h1
        have hg := hx' _ _ _ _ _ k1 cd_us (show m < m + 1 by omega) h2
        exact ih r (i + 1) (m + 1) (nm c :: dn) _ _ _ _ _ _ _ h1 (cd_Ft hF h2) r1 o.1 o.2 (by rw [r2]; exact hqr) (by rw [List.length_cons]; omega) (by rw [List.length_cons]; omega) (Or.inr hg)
      · refine cd_old_f (by omega) r3 (by omega) (br_t rfl (cd_c171 (by omega) (by omega) ?_))
        rw [if_pos (show (2 : Int32) = 2 by rfl)]
        refine cd_cx ?_ (by omega)
        obtain ⟨h3, h4⟩ := cd_stepC (gt := 2) (gc := nI r) hz h hc o1 o2 hq q2 (Or.inr (Or.inr ⟨rfl, r, rfl, Or.inl r1⟩)) (by rw [cd_v2 (by omega), r2]; exact hcd)
        obtain ⟨w1, w2, w3, w4⟩ := hx' _ _ _ _ _ (by rw [cd_ud mm]; exact k1) cd_us (by omega) h4
        exact H _ _ _ _ _ _ _ _ _ h3 (cd_Ft hF h4) w1 w2 w3 w4
theorem cd_carry {post : Int32 → St1 → Prop} {b0 to fr a : Nat} {car cdr : Nat → cd_V} {ids dn : List Nat} {Q : Nat → Prop} {K nm : Nat → Nat} {T C M A D : Nat → Int32} {E F : Nat → Int64} {g k : Int32}
    (hz : (b0 = 0 ∧ to = 160) ∨ (b0 = 160 ∧ to = 0)) (q2 : ∀ i j, Q i → cdr i = cd_p j → Q j) (h : cd_CI b0 to fr K nm T C M car cdr none ids dn Q) (ha : cd_R K a) (hq : Q (nm a))
    (H : ∀ (fr' x : Nat) (dn' : List Nat) (K' nm' : Nat → Nat) (T' C' M' : Nat → Int32) (g k : Int32), cd_CI b0 to fr' K' nm' T' C' M' car cdr none ids dn' Q → cd_F to fr fr' K nm K' nm' T C T' C' → to ≤ x → x < fr' → K' x = 1 → nm' x = nm a → post (nI x) (nI b0, nI fr', nI dn'.length, g, k, T', C', M', A, D, E, F)) :
    wpX_carry post (nI b0, nI fr, nI dn.length, g, k, T, C, M, A, D, E, F) (nI a) := by
  obtain ⟨r, r1, r2, r3, r4⟩ := cd_trace hz h ha
  have hl := cd_CIlen h
  have s0 : to ≤ fr := h.2.2.2.2.2.2.2.2.2.2.1
  have s1 : fr ≤ to + 2 * dn.length := h.2.2.2.2.2.2.2.2.2.2.2.1
  have z1 := h.1 r (by omega)
  unfold wpX_carry
  refine r4 _ _ _ _ _ _ _ _ _ _ ?_
  by_cases o : b0 ≤ r ∧ r < b0 + 160
  · refine cd_old_t o.1 o.2 (by omega) (br_f (by decide) ⟨33, ?_⟩)
    have hp : cd_CI b0 to fr K nm T C M car cdr (some (nm r)) ids dn Q := by
      obtain ⟨a1, a2, a3, a4⟩ := h
      refine ⟨a1, a2, fun a ha => ?_, a4⟩
      obtain ⟨x1, x2, x3, x4⟩ := a3 a ha
      refine ⟨x1, x2, x3, ?_⟩
      rcases x4 with ⟨_, _, _, i, y, _⟩ | x4
      · exact absurd y (by intro z; cases z)
      · exact Or.inr x4
    exact cd_cl (i0 := nm a) hz q2 (fun fr' dn' K' nm' T' C' M' g' k' h1 h2 h3 h4 h5 h6 => H fr' fr dn' K' nm' T' C' M' g' k' h1 h2 h3 h4 h5 h6) 33 r 0 fr dn K nm T C M g k hp cd_F0 r1 o.1 o.2 (by rw [r2]; exact hq) (by omega) (by omega) (Or.inl ⟨rfl, r2⟩)
  · refine cd_old_f (by omega) r3 (by omega) (br_t rfl ?_)
    exact H fr r dn K nm T C M g k h cd_F0 (by omega) (by omega) r1 r2
end
section
/-! ===== the walk of carry_2 ===== -/
section
variable {post : Int32 → St1 → Prop} {J : Int32 → Int32 → Int32 → Int32 → Int32 → Int32 → Int32 → Int32 → (Nat → Int32) → (Nat → Int32) → (Nat → Int32) → (Nat → Int32) → (Nat → Int32) → (Nat → Int64) → (Nat → Int64) → Prop} {b p g k x2 x3 x4 : Int32} {T C M A D : Nat → Int32} {E F : Nat → Int64}
theorem cd_c205_2 {i m : Nat} {z0 z1 : Int32} (hm : m < 320) (h : J x2 0 (nI (i + 1)) b (nI (m + 1)) p g k (upd T m z1) (upd C m z0) (upd M m 2) A D E F) : wX_carry_2_205 post J x2 x3 (nI i) z0 z1 (nI m) b (nI m) p g k T C M A D E F := by
  unfold wX_carry_2_205
  refine cd_put_2 hm ?_
  exact ⟨pk_in m 320 hm, nm_r (by rw [nI_clamp (by omega)]) (nm_r (nI_1 m) (nm_r (nI_1 i) h))⟩
theorem cd_c171_2 {i a m : Nat} {x7 : Int32} (ha : a < 320) (hm : m < 320) (h : J x2 0 (nI (i + 1)) b (nI (m + 1)) p g k (upd T m g) (upd C m (if g = 2 then x7 else k)) (upd (upd M a 0) m 2) A D E F) : wX_carry_2_171 post J x2 x3 (nI i) (nI a) x7 b (nI m) p g k T C M A D E F := by
  unfold wX_carry_2_171
  refine ⟨pk_in a 320 ha, nm_r (e' := upd M a 0) (by rw [nI_clamp (by omega)]) ?_⟩
  refine br_c (fun e => ?_) (fun e => ?_)
  · rw [if_pos e] at h
    exact cd_c205_2 hm h
  · rw [if_neg e] at h
    exact cd_c205_2 hm h
theorem cd_cx_2 {n i : Nat} {f : Int32} (h : post x3 (b, f, p, g, k, T, C, M, A, D, E, F)) (hi : i < 2 ^ 31) : wX_carry_2_27 post x3 (n + 1) x2 0 (nI i) b f p g k T C M A D E F :=
  pk_le 160 i (fun _ => h) (fun _ => br_t rfl h)
end
theorem cd_cl_2 {post : Int32 → St1 → Prop} {b0 to x3 i0 fr0 : Nat} {car cdr : Nat → cd_V} {ids : List Nat} {Q : Nat → Prop} {K0 nm0 : Nat → Nat} {T0 C0 A D : Nat → Int32} {E F : Nat → Int64}
    (hz : (b0 = 0 ∧ to = 160) ∨ (b0 = 160 ∧ to = 0)) (q2 : ∀ i j, Q i → cdr i = cd_p j → Q j)
    (H : ∀ (fr : Nat) (dn : List Nat) (K nm : Nat → Nat) (T C M : Nat → Int32) (g k : Int32), cd_CI b0 to fr K nm T C M car cdr none ids dn Q → cd_F to fr0 fr K0 nm0 K nm T0 C0 T C → to ≤ x3 → x3 < fr → K x3 = 1 → nm x3 = i0 → post (nI x3) (nI b0, nI fr, nI dn.length, g, k, T, C, M, A, D, E, F)) :
    ∀ (n c i fr : Nat) (dn : List Nat) (K nm : Nat → Nat) (T C M : Nat → Int32) (g k : Int32), cd_CI b0 to fr K nm T C M car cdr (some (nm c)) ids dn Q → cd_F to fr0 fr K0 nm0 K nm T0 C0 T C → K c = 1 → b0 ≤ c → c < b0 + 160 → Q (nm c) → i ≤ dn.length → 33 ≤ n + dn.length → ((x3 = fr ∧ nm c = i0) ∨ (to ≤ x3 ∧ x3 < fr ∧ K x3 = 1 ∧ nm x3 = i0)) →
      wX_carry_2_27 post (nI x3) n (nI c) 1 (nI i) (nI b0) (nI fr) (nI dn.length) g k T C M A D E F := by
  intro n
  induction n with
  | zero =>
    intro c i fr dn K nm T C M g k h hF hc o1 o2 hq hi hn hx
    have := cd_CIlen h
    omega
  | succ n ih =>
    intro c i m dn K nm T C M g k h hF hc o1 o2 hq hi hn hx
    obtain ⟨hnm, hl⟩ := cd_CIlen1 hz h hc o1 o2
    have s0 : to ≤ m := h.2.2.2.2.2.2.2.2.2.2.1
    have s1 : m ≤ to + 2 * dn.length := h.2.2.2.2.2.2.2.2.2.2.2.1
    have z1 := h.1
    obtain ⟨x1, x2, x3', x4⟩ := h.2.2.1 c hc
    have vl := h.2.2.2.2.2.1
    have cm : c ≠ m := by omega
    have hb : ∀ a, cd_R K a → a < 2 ^ 31 := fun a ha => by
      have := z1 a (by unfold cd_R at ha; omega)
      omega
    have hne : ∀ a, K a ≠ 0 → a ≠ m := fun a ha => by
      have := z1 a ha
      omega
    have x4' : (M c = 0 → K (c + 1) = 3) ∧ (M c = 1 → cd_R K (c + 1)) ∧ cd_d nm T C M c = cdr (nm c) := by
      rcases x4 with ⟨y0, y1, y2, _⟩ | x4
      · omega
      · exact x4
    obtain ⟨y1, y2, y3⟩ := x4'
    have e1 : cd_dt (upd T m (T c)) M c = cd_dt T M c := by
      unfold cd_dt
      by_cases m0 : M c = 0
      · rw [if_pos m0, if_pos m0, pk_un (hne _ (by rw [y1 m0]; omega))]
      · rw [if_neg m0, if_neg m0]
    have e2 : cd_dc (upd C m (C c)) M c = cd_dc C M c := by
      unfold cd_dc
      by_cases m0 : M c = 0
      · rw [if_pos m0, if_pos m0, pk_un (hne _ (by rw [y1 m0]; omega))]
      · rw [if_neg m0, if_neg m0]
    have hok : cd_ok (cd_R K) (cd_dt T M c) (cd_dc C M c) := cd_dok (fun z => (vl _ (y1 z)).1) y2
    have hcd : cd_v nm (cd_dt T M c) (cd_dc C M c) = cdr (nm c) := y3
    have hst : cd_st (upd T m (T c)) (upd C m (C c)) c c := ⟨by omega, by omega, by rw [pk_un cm]; exact cd_okn x1, Or.inl rfl⟩
    have hm1 : M c = 0 → c + 1 < 320 := fun z => by
      have := z1 (c + 1) (by rw [y1 z]; omega)
      omega
    have hx' : ∀ (fr' : Nat) (K' nm' : Nat → Nat) (T' C' : Nat → Int32), K' m = 1 → nm' m = nm c → m < fr' → cd_F to m fr' K nm K' nm' T C T' C' → to ≤ x3 ∧ x3 < fr' ∧ K' x3 = 1 ∧ nm' x3 = i0 := fun fr' K' nm' T' C' k1 k2 k3 k4 => by
      rcases hx with ⟨w1, w2⟩ | ⟨w1, w2, w3, w4⟩
      · rw [w1]
        exact ⟨s0, k3, k1, k2.trans w2⟩
      · obtain ⟨j1, j2, j3⟩ := k4
        exact ⟨w1, by omega, by rw [(j3 x3 w1 w2).2.2]; exact w3, by rw [(j2 x3 (Or.inl w3)).2]; exact w4⟩
    obtain ⟨n, rfl⟩ : ∃ n', n = n' + 1 := ⟨n - 1, by omega⟩
    refine pk_le 160 i (fun z => absurd z (by omega)) (fun _ => br_f (by decide) (nm_r (nI_1 m) (nm_r (nI_1 dn.length) ⟨pk_in c 320 (by omega), pk_in c 320 (by omega), ?_⟩)))
    rw [nI_clamp (show c < 2 ^ 31 by omega)]
    refine cd_put_2 (show m < 320 by omega) (cd_gotCdr_3 hst hm1 ?_)
    rw [e1, e2]
    refine cd_put_2 (show c < 320 by omega) ?_
    revert hok hcd
    generalize cd_dt T M c = gt
    generalize cd_dc C M c = gc
    intro hok hcd
    have k1 : cd_un (cd_un K m 1) c 4 m = 1 := by rw [cd_ud cm.symm, cd_us]
    have hnm1 : ∀ a, cd_R K a → a < 2 ^ 31 ∧ cd_un nm m (nm c) a = nm a := fun a ha => ⟨hb a ha, cd_ud (hne a (by unfold cd_R at ha; omega))⟩
    have hR1 : ∀ a, cd_R K a → cd_R (cd_un (cd_un K m 1) c 4) a := fun a ha => by
      by_cases e : a = c
      · rw [e]
        exact Or.inr (Or.inr cd_us)
      · unfold cd_R
        rw [cd_ud e, cd_ud (hne a (by unfold cd_R at ha; omega))]
        exact ha
    have mm : m ≠ m + 1 := by omega
    rcases hok with e | e | ⟨e, w, ew, hw⟩
    · -- nil
      subst e
      rw [cd_v0] at hcd
      refine br_f (by decide) ?_
      unfold wX_carry_2_117
      refine br_t rfl ⟨pk_in m 320 (by omega), nm_r (e' := upd M m 2) (by rw [nI_clamp (by omega)]) (nm_r (nI_1 i) (cd_cx_2 ?_ (by omega)))⟩
      obtain ⟨h1, h2⟩ := cd_stepA (x := 2) (pc1 := none) hz h hc o1 o2 hq (Or.inr ⟨rfl, hcd.symm⟩)
      obtain ⟨w1, w2, w3, w4⟩ := hx' _ _ _ _ _ k1 cd_us (by omega) h2
      exact H _ _ _ _ _ _ _ _ _ h1 (cd_Ft hF h2) w1 w2 w3 w4
    · -- a number
      subst e
      refine br_f (by decide) ?_
      unfold wX_carry_2_117
      refine br_f (by decide) (br_f (by decide) (cd_c171_2 (by omega) (by omega) ?_))
      rw [if_neg (show ¬ (1 : Int32) = 2 by decide)]
      refine cd_cx_2 ?_ (by omega)
      obtain ⟨h1, h2⟩ := cd_stepC (gt := 1) (gc := gc) hz h hc o1 o2 hq q2 (Or.inr (Or.inl rfl)) (by rw [← hcd, cd_v1, cd_v1])
      obtain ⟨w1, w2, w3, w4⟩ := hx' _ _ _ _ _ (by rw [cd_ud mm]; exact k1) cd_us (by omega) h2
      exact H _ _ _ _ _ _ _ _ _ h1 (cd_Ft hF h2) w1 w2 w3 w4
    · -- a pair
      subst e
      subst ew
      rw [cd_v2 (hb w hw)] at hcd
      obtain ⟨h1, h2⟩ := cd_stepA (x := 1) (pc1 := some (nm w)) hz h hc o1 o2 hq (Or.inl ⟨rfl, nm w, rfl, hcd.symm⟩)
      obtain ⟨r, r1, r2, r3, r4⟩ := cd_trace hz h1 (hR1 w hw)
      rw [(hnm1 w hw).2] at r2
      have hqr : Q (nm w) := q2 _ _ hq hcd.symm
      refine br_t rfl (r4 _ _ _ _ _ _ _ _ _ _ ?_)
      unfold wX_carry_2_117
      refine br_f (by decide) (br_t rfl ?_)
      by_cases o : b0 ≤ r ∧ r < b0 + 160
      · refine cd_old_t o.1 o.2 (by omega) (br_f (by decide) ⟨pk_in m 320 (by omega), nm_r (e' := upd M m 1) (by rw [nI_clamp (by omega)]) (nm_r (nI_1 i) ?_)⟩)
        rw [← r2] at h1
        have hg := hx' _ _ _ _ _ k1 cd_us (show m < m + 1 by omega) h2
        exact ih r (i + 1) (m + 1) (nm c :: dn) _ _ _ _ _ _ _ h1 (cd_Ft hF h2) r1 o.1 o.2 (by rw [r2]; exact hqr) (by rw [List.length_cons]; omega) (by rw [List.length_cons]; omega) (Or.inr hg)
      · refine cd_old_f (by omega) r3 (by omega) (br_t rfl (cd_c171_2 (by omega) (by omega) ?_))
        rw [if_pos (show (2 : Int32) = 2 by rfl)]
        refine cd_cx_2 ?_ (by omega)
        obtain ⟨h3, h4⟩ := cd_stepC (gt := 2) (gc := nI r) hz h hc o1 o2 hq q2 (Or.inr (Or.inr ⟨rfl, r, rfl, Or.inl r1⟩)) (by rw [cd_v2 (by omega), r2]; exact hcd)
        obtain ⟨w1, w2, w3, w4⟩ := hx' _ _ _ _ _ (by rw [cd_ud mm]; exact k1) cd_us (by omega) h4
        exact H _ _ _ _ _ _ _ _ _ h3 (cd_Ft hF h4) w1 w2 w3 w4
theorem cd_carry_2 {post : Int32 → St1 → Prop} {b0 to fr a : Nat} {car cdr : Nat → cd_V} {ids dn : List Nat} {Q : Nat → Prop} {K nm : Nat → Nat} {T C M A D : Nat → Int32} {E F : Nat → Int64} {g k : Int32}
    (hz : (b0 = 0 ∧ to = 160) ∨ (b0 = 160 ∧ to = 0)) (q2 : ∀ i j, Q i → cdr i = cd_p j → Q j) (h : cd_CI b0 to fr K nm T C M car cdr none ids dn Q) (ha : cd_R K a) (hq : Q (nm a))
    (H : ∀ (fr' x : Nat) (dn' : List Nat) (K' nm' : Nat → Nat) (T' C' M' : Nat → Int32) (g k : Int32), cd_CI b0 to fr' K' nm' T' C' M' car cdr none ids dn' Q → cd_F to fr fr' K nm K' nm' T C T' C' → to ≤ x → x < fr' → K' x = 1 → nm' x = nm a → post (nI x) (nI b0, nI fr', nI dn'.length, g, k, T', C', M', A, D, E, F)) :
    wpX_carry_2 post (nI b0, nI fr, nI dn.length, g, k, T, C, M, A, D, E, F) (nI a) := by
  obtain ⟨r, r1, r2, r3, r4⟩ := cd_trace hz h ha
  have hl := cd_CIlen h
  have s0 : to ≤ fr := h.2.2.2.2.2.2.2.2.2.2.1
  have s1 : fr ≤ to + 2 * dn.length := h.2.2.2.2.2.2.2.2.2.2.2.1
  have z1 := h.1 r (by omega)
  unfold wpX_carry_2
  refine r4 _ _ _ _ _ _ _ _ _ _ ?_
  by_cases o : b0 ≤ r ∧ r < b0 + 160
  · refine cd_old_t o.1 o.2 (by omega) (br_f (by decide) ⟨33, ?_⟩)
    have hp : cd_CI b0 to fr K nm T C M car cdr (some (nm r)) ids dn Q := by
      obtain ⟨a1, a2, a3, a4⟩ := h
      refine ⟨a1, a2, fun a ha => ?_, a4⟩
      obtain ⟨x1, x2, x3, x4⟩ := a3 a ha
      refine ⟨x1, x2, x3, ?_⟩
      rcases x4 with ⟨_, _, _, i, y, _⟩ | x4
      · exact absurd y (by intro z; cases z)
      · exact Or.inr x4
    exact cd_cl_2 (i0 := nm a) hz q2 (fun fr' dn' K' nm' T' C' M' g' k' h1 h2 h3 h4 h5 h6 => H fr' fr dn' K' nm' T' C' M' g' k' h1 h2 h3 h4 h5 h6) 33 r 0 fr dn K nm T C M g k hp cd_F0 r1 o.1 o.2 (by rw [r2]; exact hq) (by omega) (by omega) (Or.inl ⟨rfl, r2⟩)
  · refine cd_old_f (by omega) r3 (by omega) (br_t rfl ?_)
    exact H fr r dn K nm T C M g k h cd_F0 (by omega) (by omega) r1 r2
end
section
/-! ===== the steady heap, and the way into and out of collect ===== -/
def cd_clo (car cdr reg : Nat → cd_V) (P : Nat → Prop) : Prop := (∀ r i, r < 8 → reg r = cd_p i → P i) ∧ (∀ i j, P i → car i = cd_p j → P j) ∧ (∀ i j, P i → cdr i = cd_p j → P j)
def cd_rch (car cdr reg : Nat → cd_V) (i : Nat) : Prop := ∀ P, cd_clo car cdr reg P → P i
theorem cd_rchc {car cdr reg : Nat → cd_V} : cd_clo car cdr reg (cd_rch car cdr reg) :=
  ⟨fun r i hr e P hP => hP.1 r i hr e, fun i j h e P hP => hP.2.1 i j (h P hP) e, fun i j h e P hP => hP.2.2 i j (h P hP) e⟩
def cd_W (lo hi : Nat) (K : Nat → Nat) (T C M : Nat → Int32) : Prop :=
  (∀ a, K a ≠ 0 → lo ≤ a ∧ a < hi ∧ K a ≤ 3) ∧
  (∀ a, K a = 1 → cd_ok (cd_R K) (T a) (C a) ∧ (M a = 0 → K (a + 1) = 3) ∧ (M a = 1 → cd_R K (a + 1))) ∧
  (∀ a, K a = 2 → T a = 3 ∧ ∃ n, C a = nI n ∧ K n = 1 ∧ M n = 0) ∧
  (∀ a, K a = 3 → cd_ok (cd_R K) (T a) (C a))
def cd_A (K nm : Nat → Nat) (T C M : Nat → Int32) (car cdr : Nat → cd_V) : Prop :=
  (∀ a, K a = 1 → cd_v nm (T a) (C a) = car (nm a) ∧ cd_d nm T C M a = cdr (nm a)) ∧
  (∀ a n, K a = 2 → C a = nI n → K n = 1 → nm n = nm a) ∧
  (∀ a c, K a = 1 → K c = 1 → nm a = nm c → a = c)
def cd_I (lo hi p : Nat) (K : Nat → Nat) (hs : List Nat) (T C M A D : Nat → Int32) : Prop :=
  (lo = 0 ∨ lo = 160) ∧ lo ≤ hi ∧ hi ≤ lo + 160 ∧ cd_W lo hi K T C M ∧ (∀ r, r < 8 → cd_ok (cd_R K) (A r) (D r)) ∧ (∀ a, K a = 1 → a ∈ hs) ∧ hs.length ≤ p ∧ p ≤ 32
def cd_G (K nm : Nat → Nat) (T C M A D : Nat → Int32) (car cdr reg : Nat → cd_V) : Prop :=
  cd_A K nm T C M car cdr ∧ ∀ r, r < 8 → cd_v nm (A r) (D r) = reg r
theorem cd_CIsub {b0 to fr : Nat} {K nm : Nat → Nat} {T C M : Nat → Int32} {car cdr : Nat → cd_V} {pc : Option Nat} {ids dn : List Nat} {Q : Nat → Prop} (h : cd_CI b0 to fr K nm T C M car cdr pc ids dn Q) : dn.length ≤ ids.length := by
  obtain ⟨z1, z2, hd, g2, g4, vl, ij, nd, d1, d2, s0, s1, il⟩ := h
  exact cd_len dn ids nd (fun i hi => by
    obtain ⟨_, a, _, _, a3, a4⟩ := d2 i hi
    rw [← a4]
    exact (hd a a3).2.2.1)
theorem cd_pick {P : Nat → Nat → Prop} : ∀ (l : List Nat), (∀ i, i ∈ l → ∃ a, P i a) → ∃ hs : List Nat, hs.length = l.length ∧ ∀ i, i ∈ l → ∃ a, a ∈ hs ∧ P i a
  | [], _ => ⟨[], rfl, fun i hi => absurd hi List.not_mem_nil⟩
  | x :: l, h => by
    obtain ⟨a, ha⟩ := h x List.mem_cons_self
    obtain ⟨hs, h1, h2⟩ := cd_pick l (fun i hi => h i (List.mem_cons_of_mem _ hi))
    refine ⟨a :: hs, by rw [List.length_cons, List.length_cons, h1], fun i hi => ?_⟩
    rcases List.mem_cons.mp hi with e | hi
    · rw [e]
      exact ⟨a, List.mem_cons_self, ha⟩
    · obtain ⟨c, c1, c2⟩ := h2 i hi
      exact ⟨c, List.mem_cons_of_mem _ c1, c2⟩
theorem cd_init {lo hi p to : Nat} {K nm : Nat → Nat} {hs : List Nat} {T C M A D : Nat → Int32} {car cdr : Nat → cd_V} {Q : Nat → Prop}
    (h : cd_I lo hi p K hs T C M A D) (hA : cd_A K nm T C M car cdr) : cd_CI lo to to K nm T C M car cdr none (hs.map nm) [] Q := by
  obtain ⟨i1, i2, i3, ⟨w1, w2, w3, w4⟩, i5, i6, i7, i8⟩ := h
  obtain ⟨a1, a2, a3⟩ := hA
  refine ⟨fun a ha => Or.inl ?_, fun a x y => absurd x (by omega), fun a ha => ?_, fun a ha => ?_, fun a ha => ?_, fun a ha => ⟨w4 a ha, fun x y => absurd x (by omega)⟩, a3, List.nodup_nil, fun a x y => absurd x (by omega), fun i hi => absurd hi List.not_mem_nil, Nat.le_refl _, by omega, by rw [List.length_map]; omega⟩
  · have := w1 a ha
    omega
  · obtain ⟨x1, x2, x3⟩ := w2 a ha
    exact ⟨x1, (a1 a ha).1, List.mem_map.mpr ⟨a, i6 a ha, rfl⟩, Or.inr ⟨x2, x3, (a1 a ha).2⟩⟩
  · obtain ⟨x1, n, x2, x3, x4⟩ := w3 a ha
    have h1 := w1 a (by omega)
    have h2 := w1 n (by omega)
    exact ⟨by omega, by omega, x1, n, x2, a2 a n ha x2 x3, by omega, by omega, Or.inl x3⟩
  · have := w1 a (by omega)
    omega
theorem cd_CIu {b0 to fr a n x : Nat} {K nm : Nat → Nat} {T C M : Nat → Int32} {car cdr : Nat → cd_V} {pc : Option Nat} {ids dn : List Nat} {Q : Nat → Prop}
    (hz : (b0 = 0 ∧ to = 160) ∨ (b0 = 160 ∧ to = 0)) (h : cd_CI b0 to fr K nm T C M car cdr pc ids dn Q) (h1 : to ≤ a) (h2 : a < fr) (hT : T a = 2) (hC : C a = nI n) (hn : cd_R K n) (hx : K x = 1) (hnm : nm x = nm n) :
    cd_CI b0 to fr K nm T (upd C a (nI x)) M car cdr pc ids dn Q := by
  have hl := cd_CIlen h
  obtain ⟨z1, z2, hd, g2, g4, vl, ij, nd, d1, d2, s0, s1, il⟩ := h
  have hb : ∀ n, K n ≠ 0 → n < 320 := fun n hk => by
    have := z1 n hk
    omega
  have hnb : n < 2 ^ 31 := by
    have := hb n (by unfold cd_R at hn; omega)
    omega
  have hxb : x < 2 ^ 31 := by
    have := hb x (by omega)
    omega
  have ev : ∀ w, cd_v nm (T w) (upd C a (nI x) w) = cd_v nm (T w) (C w) := fun w => by
    by_cases e : w = a
    · rw [e, pk_us, hT, hC, cd_v2 hnb, cd_v2 hxb, hnm]
    · rw [pk_un e]
  have eo : ∀ w, cd_ok (cd_R K) (T w) (C w) → cd_ok (cd_R K) (T w) (upd C a (nI x) w) := fun w hw => by
    by_cases e : w = a
    · rw [e, pk_us, hT]
      exact Or.inr (Or.inr ⟨rfl, x, rfl, Or.inl hx⟩)
    · rw [pk_un e]
      exact hw
  refine ⟨z1, z2, fun w hw => ?_, fun w hw => ?_, fun w hw => ?_, fun w hw => ?_, ij, nd, d1, d2, s0, s1, il⟩
  · obtain ⟨x1, x2, x3, x4⟩ := hd w hw
    refine ⟨eo w x1, (ev w).trans x2, x3, ?_⟩
    rcases x4 with x4 | ⟨y1, y2, y3⟩
    · exact Or.inl x4
    · refine Or.inr ⟨y1, y2, ?_⟩
      rw [← y3]
      exact cd_dcg (by have := hb w (by omega); omega) rfl (fun _ => ev (w + 1)) (fun _ => rfl)
  · have hg := g2 w hw
    rw [pk_un (show w ≠ a by omega)]
    exact hg
  · have hg := g4 w hw
    rw [pk_un (show w ≠ a by omega)]
    exact hg
  · obtain ⟨x1, x2⟩ := vl w hw
    refine ⟨eo w x1, fun q1 q2 i q3 => x2 q1 q2 i ?_⟩
    rw [ev w] at q3
    exact q3
def cd_RI (to fr : Nat) (K nm : Nat → Nat) (A D : Nat → Int32) (reg : Nat → cd_V) (i : Nat) : Prop :=
  (∀ r, r < 8 → cd_ok (cd_R K) (A r) (D r) ∧ cd_v nm (A r) (D r) = reg r) ∧ (∀ r, r < i → A r = 2 → ∃ n, D r = nI n ∧ to ≤ n ∧ n < fr)
theorem cd_RIf {to fr fr' i : Nat} {K nm K' nm' : Nat → Nat} {T C T' C' A D : Nat → Int32} {reg : Nat → cd_V} (hb : ∀ n, cd_R K n → n < 2 ^ 31) (h : cd_RI to fr K nm A D reg i) (hF : cd_F to fr fr' K nm K' nm' T C T' C') : cd_RI to fr' K' nm' A D reg i := by
  obtain ⟨f1, f2, f3⟩ := hF
  refine ⟨fun r hr => ?_, fun r hr e => ?_⟩
  · obtain ⟨x1, x2⟩ := h.1 r hr
    exact ⟨cd_okm x1 (fun n hn => (f2 n hn).1), by rw [cd_vc x1 (fun n hn => ⟨hb n hn, (f2 n hn).2⟩)]; exact x2⟩
  · obtain ⟨n, n1, n2, n3⟩ := h.2 r hr e
    exact ⟨n, n1, n2, by omega⟩
theorem cd_out {b0 to fr p : Nat} {K nm : Nat → Nat} {T C M A D : Nat → Int32} {car cdr reg : Nat → cd_V} {ids dn : List Nat}
    (hz : (b0 = 0 ∧ to = 160) ∨ (b0 = 160 ∧ to = 0)) (h : cd_CI b0 to fr K nm T C M car cdr none ids dn (cd_rch car cdr reg)) (hr : cd_RI to fr K nm A D reg 8)
    (hsc : ∀ a, to ≤ a → a < fr → T a = 2 → ∃ n, C a = nI n ∧ to ≤ n ∧ n < fr) (hp : ids.length ≤ p) :
    ∃ (K' : Nat → Nat) (hs : List Nat), cd_I to fr dn.length K' hs T C M A D ∧ cd_G K' nm T C M A D car cdr reg ∧ (∀ a, K' a ≠ 2) ∧ fr ≤ to + 64 ∧ dn.length ≤ p ∧ dn.Nodup ∧ ∀ i, i ∈ dn ↔ cd_rch car cdr reg i := by
  have hl := cd_CIlen h
  have hl2 := cd_CIsub h
  obtain ⟨z1, z2, hd, g2, g4, vl, ij, nd, d1, d2, s0, s1, il⟩ := h
  obtain ⟨r1, r2⟩ := hr
  have hb : ∀ n, cd_R K n → n < 2 ^ 31 := fun n hk => by
    have := z1 n (by unfold cd_R at hk; omega)
    omega
  obtain ⟨K', hK'⟩ : ∃ K' : Nat → Nat, K' = fun a => if to ≤ a ∧ a < fr then K a else 0 := ⟨_, rfl⟩
  have kn : ∀ a, to ≤ a → a < fr → K' a = K a := fun a h1 h2 => by rw [hK']; exact if_pos ⟨h1, h2⟩
  have k0 : ∀ a, K' a ≠ 0 → to ≤ a ∧ a < fr ∧ K' a = K a := fun a h1 => by
    by_cases e : to ≤ a ∧ a < fr
    · exact ⟨e.1, e.2, kn a e.1 e.2⟩
    · rw [hK'] at h1
      exact absurd (if_neg e) h1
  have rn : ∀ n, cd_R K n → to ≤ n → n < fr → K n = 1 := fun n hn h1 h2 => by
    have := z2 n h1 h2
    unfold cd_R at hn
    omega
  have okn : ∀ t c, cd_ok (cd_R K) t c → (t = 2 → ∃ n, c = nI n ∧ to ≤ n ∧ n < fr) → cd_ok (cd_R K') t c := fun t c hok hw => by
    rcases hok with e | e | ⟨e, n, e2, hn⟩
    · exact Or.inl e
    · exact Or.inr (Or.inl e)
    · obtain ⟨n', e3, n1, n2⟩ := hw e
      have hnn : n = n' := (nI_eq (hb n hn) (by omega)).mp (e2.symm.trans e3)
      subst hnn
      exact Or.inr (Or.inr ⟨e, n, e2, Or.inl (by rw [kn n n1 n2]; exact rn n hn n1 n2)⟩)
  have vdn : ∀ t c j, cd_ok (cd_R K) t c → (t = 2 → ∃ n, c = nI n ∧ to ≤ n ∧ n < fr) → cd_v nm t c = cd_p j → j ∈ dn := fun t c j hok hw hj => by
    obtain ⟨e, n, e2, hn, e4⟩ := cd_vp hok hb hj
    obtain ⟨n', e3, n1, n2⟩ := hw e
    have hnn : n = n' := (nI_eq (hb n hn) (by omega)).mp (e2.symm.trans e3)
    subst hnn
    rw [← e4]
    exact d1 n n1 n2 (rn n hn n1 n2)
  have h3 : ∀ a, to ≤ a → a < fr → K (a + 1) = 3 → to ≤ a + 1 ∧ a + 1 < fr := fun a h1 h2 h3 => by
    have := z1 (a + 1) (by omega)
    omega
  have h4 : ∀ a, to ≤ a → a < fr → cd_R K (a + 1) → to ≤ a + 1 ∧ a + 1 < fr ∧ K (a + 1) = 1 := fun a h1 h2 h3 => by
    have := z1 (a + 1) (by unfold cd_R at h3; omega)
    have h5 : to ≤ a + 1 ∧ a + 1 < fr := by omega
    exact ⟨h5.1, h5.2, rn _ h3 h5.1 h5.2⟩
  have hx4 : ∀ a, K a = 1 → (M a = 0 → K (a + 1) = 3) ∧ (M a = 1 → cd_R K (a + 1)) ∧ cd_d nm T C M a = cdr (nm a) := fun a ha => by
    obtain ⟨_, _, _, x4⟩ := hd a ha
    rcases x4 with ⟨_, _, _, i, y, _⟩ | x4
    · exact absurd y (by intro z; cases z)
    · exact x4
  obtain ⟨hs, hs1, hs2⟩ := cd_pick (P := fun i a => to ≤ a ∧ a < fr ∧ K a = 1 ∧ nm a = i) dn (fun i hi => (d2 i hi).2)
  refine ⟨K', hs, ⟨by omega, s0, by omega, ⟨fun a ha => ?_, fun a ha => ?_, fun a ha => ?_, fun a ha => ?_⟩, fun r hr => ?_, fun a ha => ?_, by omega, hl⟩, ⟨⟨fun a ha => ?_, fun a n ha => ?_, fun a c ha hc => ?_⟩, fun r hr => (r1 r hr).2⟩, fun a ha => ?_, by omega, by omega, nd, fun i => ⟨fun hi => (d2 i hi).1, fun hi => ?_⟩⟩
  · obtain ⟨q1, q2, q3⟩ := k0 a ha
    have := z2 a q1 q2
    omega
  · obtain ⟨q1, q2, q3⟩ := k0 a (by omega)
    have hk : K a = 1 := by omega
    obtain ⟨x1, x2, x3, _⟩ := hd a hk
    obtain ⟨y1, y2, y3⟩ := hx4 a hk
    refine ⟨okn _ _ x1 (hsc a q1 q2), fun z => ?_, fun z => ?_⟩
    · have := h3 a q1 q2 (y1 z)
      rw [kn _ this.1 this.2]
      exact y1 z
    · have := h4 a q1 q2 (y2 z)
      exact Or.inl (by rw [kn _ this.1 this.2.1]; exact this.2.2)
  · obtain ⟨q1, q2, q3⟩ := k0 a (by omega)
    have := z2 a q1 q2
    omega
  · obtain ⟨q1, q2, q3⟩ := k0 a (by omega)
    exact okn _ _ (vl a (by omega)).1 (hsc a q1 q2)
  · exact okn _ _ (r1 r hr).1 (r2 r hr)
  · obtain ⟨q1, q2, q3⟩ := k0 a (by omega)
    obtain ⟨c, c1, c2, c3, c4, c5⟩ := hs2 (nm a) (d1 a q1 q2 (by omega))
    rw [ij a c (by omega) c4 c5.symm]
    exact c1
  · obtain ⟨q1, q2, q3⟩ := k0 a (by omega)
    exact ⟨(hd a (by omega)).2.1, (hx4 a (by omega)).2.2⟩
  · obtain ⟨q1, q2, q3⟩ := k0 a (by omega)
    have := z2 a q1 q2
    omega
  · obtain ⟨q1, q2, q3⟩ := k0 a (by omega)
    obtain ⟨w1, w2, w3⟩ := k0 c (by omega)
    exact ij a c (by omega) (by omega)
  · obtain ⟨q1, q2, q3⟩ := k0 a (by omega)
    have := z2 a q1 q2
    omega
  · refine hi (fun i => i ∈ dn) ⟨fun r i hr e => ?_, fun i j hi e => ?_, fun i j hi e => ?_⟩
    · exact vdn _ _ _ (r1 r hr).1 (r2 r hr) ((r1 r hr).2.trans e)
    · obtain ⟨_, a, q1, q2, q3, q4⟩ := d2 i hi
      obtain ⟨x1, x2, _⟩ := hd a q3
      exact vdn _ _ _ x1 (hsc a q1 q2) (by rw [x2, q4]; exact e)
    · obtain ⟨_, a, q1, q2, q3, q4⟩ := d2 i hi
      obtain ⟨y1, y2, y3⟩ := hx4 a q3
      rw [← q4, ← y3] at e
      have hab : a + 1 < 2 ^ 31 := by omega
      by_cases m0 : M a = 0
      · rw [cd_d0 m0] at e
        have := h3 a q1 q2 (y1 m0)
        exact vdn _ _ _ (vl _ (y1 m0)).1 (hsc _ this.1 this.2) e
      · by_cases m1 : M a = 1
        · rw [cd_d1 m1 hab] at e
          have := h4 a q1 q2 (y2 m1)
          rw [← cd_pi e]
          exact d1 _ this.1 this.2.1 this.2.2
        · rw [cd_d2 m0 m1] at e
          exact absurd e.symm cd_pn
end
section
/-! ===== the walk of collect ===== -/
theorem cd_scan {post : St1 → Prop} {b0 to : Nat} {car cdr reg : Nat → cd_V} {ids : List Nat} {A D : Nat → Int32} {E F : Nat → Int64}
    (hz : (b0 = 0 ∧ to = 160) ∨ (b0 = 160 ∧ to = 0))
    (H : ∀ (fr : Nat) (dn : List Nat) (K nm : Nat → Nat) (T C M : Nat → Int32) (g k : Int32), cd_CI b0 to fr K nm T C M car cdr none ids dn (cd_rch car cdr reg) → cd_RI to fr K nm A D reg 8 → (∀ a, to ≤ a → a < fr → T a = 2 → ∃ n, C a = nI n ∧ to ≤ n ∧ n < fr) → post (nI to, nI fr, nI dn.length, g, k, T, C, M, A, D, E, F)) :
    ∀ (n i fr : Nat) (dn : List Nat) (K nm : Nat → Nat) (T C M : Nat → Int32) (g k : Int32), cd_CI b0 to fr K nm T C M car cdr none ids dn (cd_rch car cdr reg) → cd_RI to fr K nm A D reg 8 → to + i ≤ fr → (∀ a, to ≤ a → a < to + i → T a = 2 → ∃ n, C a = nI n ∧ to ≤ n ∧ n < fr) → 100 ≤ n + i →
      wX_collect_63 post (nI to) n (nI (to + i)) (nI i) (nI b0) (nI fr) (nI dn.length) g k T C M A D E F := by
  intro n
  induction n with
  | zero =>
    intro i fr dn K nm T C M g k h hr hi hs hn
    have hl := cd_CIlen h
    have s1 : fr ≤ to + 2 * dn.length := h.2.2.2.2.2.2.2.2.2.2.2.1
    omega
  | succ n ih =>
    intro i fr dn K nm T C M g k h hr hi hs hn
    have hl := cd_CIlen h
    have s1 : fr ≤ to + 2 * dn.length := h.2.2.2.2.2.2.2.2.2.2.2.1
    have z1 := h.1
    have hb : ∀ n, cd_R K n → n < 2 ^ 31 := fun n hk => by
      have := z1 n (by unfold cd_R at hk; omega)
      omega
    refine pk_le 160 i (fun z => absurd z (by omega)) (fun _ => pk_le fr (to + i) (fun z => ?_) (fun z => ⟨pk_in (to + i) 320 (by omega), ?_⟩))
    · exact H fr dn K nm T C M g k h hr (fun a h1 h2 => hs a h1 (by omega))
    rw [nI_clamp (show to + i < 2 ^ 31 by omega)]
    have hk : K (to + i) = 1 ∨ K (to + i) = 3 := h.2.1 _ (by omega) z
    have hok : cd_ok (cd_R K) (T (to + i)) (C (to + i)) := by
      rcases hk with hk | hk
      · exact (h.2.2.1 _ hk).1
      · exact (h.2.2.2.2.2.1 _ hk).1
    by_cases t2 : T (to + i) = 2
    · obtain ⟨w, w1, w2⟩ := cd_ok2 hok t2
      have wz := z1 w (by unfold cd_R at w2; omega)
      refine br_t t2 ⟨pk_in (to + i) 320 (by omega), ?_⟩
      rw [w1]
      by_cases o : b0 ≤ w ∧ w < b0 + 160
      · have hq : cd_rch car cdr reg (nm w) := by
          have hv : cd_v nm (T (to + i)) (C (to + i)) = cd_p (nm w) := by rw [t2, w1, cd_v2 (hb w w2)]
          rcases hk with hk | hk
          · have hh := (h.2.2.1 _ hk).2.1
            have hdn := h.2.2.2.2.2.2.2.2.1 _ (by omega) z hk
            have hQ := (h.2.2.2.2.2.2.2.2.2.1 _ hdn).1
            exact cd_rchc.2.1 _ _ hQ (hh.symm.trans hv)
          · exact (h.2.2.2.2.2.1 _ hk).2 (by omega) z _ hv
        refine cd_old_t o.1 o.2 (by omega) (br_f (by decide) ⟨pk_in (to + i) 320 (by omega), ?_⟩)
        refine cd_carry hz cd_rchc.2.2 h w2 hq (fun fr' x dn' K' nm' T' C' M' g' k' h' hF x1 x2 x3 x4 => ?_)
        have hl' := cd_CIlen h'
        have s1' : fr' ≤ to + 2 * dn'.length := h'.2.2.2.2.2.2.2.2.2.2.2.1
        have hr' := cd_RIf hb hr hF
        obtain ⟨f1, f2, f3⟩ := hF
        obtain ⟨e1, e2, e3⟩ := f3 (to + i) (by omega) z
        obtain ⟨e4, e5⟩ := f2 w w2
        have h'' := cd_CIu hz h' (show to ≤ to + i by omega) (by omega) (e1.trans t2) (e2.trans w1) e4 x3 (x4.trans e5.symm)
        refine ⟨pk_in (to + i) 320 (by omega), nm_e (nm_r (nI_1 _) (nm_r (nI_1 _) ?_))⟩
        refine ih (i + 1) fr' dn' K' nm' T' _ M' g' k' h'' hr' (by omega) (fun a h1 h2 h3 => ?_) (by omega)
        by_cases e : a = to + i
        · rw [e, pk_us]
          exact ⟨x, rfl, x1, x2⟩
        · obtain ⟨d1, d2, d3⟩ := f3 a h1 (by omega)
          rw [pk_un e, d2]
          rw [d1] at h3
          obtain ⟨n, n1, n2, n3⟩ := hs a h1 (by omega) h3
          exact ⟨n, n1, n2, by omega⟩
      · refine cd_old_f (by omega) (by omega) (by omega) (br_t rfl (nm_r (nI_1 _) (nm_r (nI_1 _) ?_)))
        refine ih (i + 1) fr dn K nm T C M g k h hr (by omega) (fun a h1 h2 h3 => ?_) (by omega)
        by_cases e : a = to + i
        · rw [e]
          exact ⟨w, w1, by omega, by omega⟩
        · exact hs a h1 (by omega) h3
    · refine br_f t2 (nm_r (nI_1 _) (nm_r (nI_1 _) ?_))
      refine ih (i + 1) fr dn K nm T C M g k h hr (by omega) (fun a h1 h2 h3 => ?_) (by omega)
      by_cases e : a = to + i
      · exact absurd (by rw [← e]; exact h3) t2
      · exact hs a h1 (by omega) h3
theorem cd_regs {post : St1 → Prop} {b0 to : Nat} {car cdr reg : Nat → cd_V} {ids : List Nat} {A : Nat → Int32} {E F : Nat → Int64}
    (hz : (b0 = 0 ∧ to = 160) ∨ (b0 = 160 ∧ to = 0))
    (H : ∀ (fr : Nat) (dn : List Nat) (K nm : Nat → Nat) (T C M D : Nat → Int32) (g k : Int32), cd_CI b0 to fr K nm T C M car cdr none ids dn (cd_rch car cdr reg) → cd_RI to fr K nm A D reg 8 → (∀ a, to ≤ a → a < fr → T a = 2 → ∃ n, C a = nI n ∧ to ≤ n ∧ n < fr) → post (nI to, nI fr, nI dn.length, g, k, T, C, M, A, D, E, F)) :
    ∀ (n i fr : Nat) (dn : List Nat) (K nm : Nat → Nat) (T C M D : Nat → Int32) (g k : Int32), cd_CI b0 to fr K nm T C M car cdr none ids dn (cd_rch car cdr reg) → cd_RI to fr K nm A D reg i → i ≤ 8 → 9 ≤ n + i →
      wX_collect_21 post (nI to) n (nI i) (nI b0) (nI fr) (nI dn.length) g k T C M A D E F := by
  intro n
  induction n with
  | zero =>
    intro i fr dn K nm T C M D g k h hr hi hn
    omega
  | succ n ih =>
    intro i fr dn K nm T C M D g k h hr hi hn
    have hl := cd_CIlen h
    have s0 : to ≤ fr := h.2.2.2.2.2.2.2.2.2.2.1
    have s1 : fr ≤ to + 2 * dn.length := h.2.2.2.2.2.2.2.2.2.2.2.1
    have z1 := h.1
    have hb : ∀ n, cd_R K n → n < 2 ^ 31 := fun n hk => by
      have := z1 n (by unfold cd_R at hk; omega)
      omega
    refine pk_le 8 i (fun z => ⟨100, ?_⟩) (fun z => ⟨pk_in i 8 z, ?_⟩)
    · have e : i = 8 := by omega
      subst e
      exact cd_scan hz (fun fr dn K nm T C M g k => H fr dn K nm T C M D g k) 100 0 fr dn K nm T C M g k h hr (by omega) (fun a h1 h2 => absurd h1 (by omega)) (by omega)
    rw [nI_clamp (show i < 2 ^ 31 by omega)]
    by_cases t2 : A i = 2
    · obtain ⟨x1, x2⟩ := hr.1 i z
      obtain ⟨w, w1, w2⟩ := cd_ok2 x1 t2
      have hv : reg i = cd_p (nm w) := by rw [← x2, t2, w1, cd_v2 (hb w w2)]
      refine br_t t2 ⟨pk_in i 8 z, ?_⟩
      rw [w1]
      refine cd_carry_2 hz cd_rchc.2.2 h w2 (cd_rchc.1 i _ z hv) (fun fr' x dn' K' nm' T' C' M' g' k' h' hF x1 x2 x3 x4 => ?_)
      have hr' := cd_RIf hb hr hF
      have hl' := cd_CIlen h'
      have s1' : fr' ≤ to + 2 * dn'.length := h'.2.2.2.2.2.2.2.2.2.2.2.1
      refine ⟨pk_in i 8 z, nm_e (nm_r (nI_1 _) ?_)⟩
      refine ih (i + 1) fr' dn' K' nm' T' C' M' _ g' k' h' ⟨fun r hr8 => ?_, fun r hr8 e2 => ?_⟩ (by omega) (by omega)
      · by_cases e : r = i
        · rw [e, pk_us, t2, cd_v2 (by omega), x4, hv]
          exact ⟨Or.inr (Or.inr ⟨rfl, x, rfl, Or.inl x3⟩), rfl⟩
        · rw [pk_un e]
          exact hr'.1 r hr8
      · by_cases e : r = i
        · rw [e, pk_us]
          exact ⟨x, rfl, x1, x2⟩
        · rw [pk_un e]
          exact hr'.2 r (by omega) e2
    · refine br_f t2 (nm_r (nI_1 _) ?_)
      refine ih (i + 1) fr dn K nm T C M D g k h ⟨hr.1, fun r hr8 e2 => ?_⟩ (by omega) (by omega)
      by_cases e : r = i
      · exact absurd (by rw [← e]; exact e2) t2
      · exact hr.2 r (by omega) e2
/-- collect: the same graph, in the other half -/
theorem cd_collect {post : St1 → Prop} {lo hi p : Nat} {K nm : Nat → Nat} {hs : List Nat} {T C M A D : Nat → Int32} {E F : Nat → Int64} {g k : Int32} {car cdr reg : Nat → cd_V}
    (h : cd_I lo hi p K hs T C M A D) (hG : cd_G K nm T C M A D car cdr reg)
    (H : ∀ (lo' hi' : Nat) (K' nm' : Nat → Nat) (hs' dn : List Nat) (T' C' M' D' : Nat → Int32) (g' k' : Int32), cd_I lo' hi' dn.length K' hs' T' C' M' A D' → cd_G K' nm' T' C' M' A D' car cdr reg → (∀ a, K' a ≠ 2) → hi' ≤ lo' + 64 → dn.length ≤ p → dn.Nodup → (∀ i, i ∈ dn ↔ cd_rch car cdr reg i) → post (nI lo', nI hi', nI dn.length, g', k', T', C', M', A, D', E, F)) :
    wpX_collect post (nI lo, nI hi, nI p, g, k, T, C, M, A, D, E, F) := by
  obtain ⟨to, hz⟩ : ∃ to, (lo = 0 ∧ to = 160) ∨ (lo = 160 ∧ to = 0) := by
    rcases h.1 with e | e
    · exact ⟨160, Or.inl ⟨e, rfl⟩⟩
    · exact ⟨0, Or.inr ⟨e, rfl⟩⟩
  have hci : cd_CI lo to to K nm T C M car cdr none (hs.map nm) [] (cd_rch car cdr reg) := cd_init h hG.1
  have hle : (hs.map nm).length ≤ p := by rw [List.length_map]; exact h.2.2.2.2.2.2.1
  unfold wpX_collect
  refine nm_r (e' := nI to) ?_ ⟨9, ?_⟩
  · have e : (160 : Int32) - nI lo = nI (160 - lo) := pk_sub (a := 160) (by omega)
    rw [e, show 160 - lo = to by omega]
  · refine cd_regs hz (fun fr dn K' nm' T' C' M' D' g' k' h1 h2 h3 => ?_) 9 0 to [] K nm T C M D g k hci ⟨fun r hr => ⟨h.2.2.2.2.1 r hr, hG.2 r hr⟩, fun r hr => absurd hr (by omega)⟩ (by omega) (by omega)
    obtain ⟨K2, hs2, a1, a2, a3, a4, a5, a6, a7⟩ := cd_out hz h1 h2 h3 hle
    exact H to fr K2 nm' hs2 dn T' C' M' D' g' k' a1 a2 a3 a4 a5 a6 a7
end
section
/-! ===== chains, reversal ===== -/
def cd_ch (d : Nat → cd_V) : List Nat → cd_V → cd_V → Prop
  | [], v, e => v = e
  | i :: l, v, e => v = cd_p i ∧ cd_ch d l (d i) e
def cd_np (e : cd_V) : Prop := ∀ i, e ≠ cd_p i
theorem cd_np0 : cd_np none := fun _ h => cd_pn h.symm
theorem cd_chd {d : Nat → cd_V} : ∀ (l l' : List Nat) (v e e' : cd_V), cd_ch d l v e → cd_ch d l' v e' → cd_np e → cd_np e' → l = l' ∧ e = e'
  | [], [], v, e, e', h, h', _, _ => ⟨rfl, Eq.trans (Eq.symm h) h'⟩
  | [], j :: l', v, e, e', h, h', n, _ => absurd (Eq.trans (Eq.symm h) h'.1) (n j)
  | i :: l, [], v, e, e', h, h', _, n => absurd (Eq.trans (Eq.symm h') h.1) (n i)
  | i :: l, j :: l', v, e, e', h, h', n, n' => by
    have hij : i = j := cd_pi (h.1.symm.trans h'.1)
    subst hij
    obtain ⟨a, b⟩ := cd_chd l l' (d i) e e' h.2 h'.2 n n'
    exact ⟨by rw [a], b⟩
theorem cd_chlt {d : Nat → cd_V} : ∀ (l l' : List Nat) (v e e' : cd_V), cd_ch d l v e → cd_ch d l' v e' → cd_np e → l'.length ≤ l.length
  | _, [], v, e, e', h, h', _ => Nat.zero_le _
  | [], j :: l', v, e, e', h, h', n => absurd (Eq.trans (Eq.symm h) h'.1) (n j)
  | i :: l, j :: l', v, e, e', h, h', n => by
    have hij : i = j := cd_pi (h.1.symm.trans h'.1)
    subst hij
    have := cd_chlt l l' (d i) e e' h.2 h'.2 n
    rw [List.length_cons, List.length_cons]
    omega
theorem cd_cha {d : Nat → cd_V} {i : Nat} {b : List Nat} {e : cd_V} : ∀ (a : List Nat) (v : cd_V), cd_ch d (a ++ i :: b) v e → cd_ch d b (d i) e
  | [], v, h => h.2
  | _ :: a, v, h => cd_cha a _ h.2
theorem cd_chn {d : Nat → cd_V} {e : cd_V} (n : cd_np e) : ∀ (l : List Nat) (v : cd_V), cd_ch d l v e → l.Nodup
  | [], v, _ => List.nodup_nil
  | i :: l, v, h => by
    refine List.nodup_cons.mpr ⟨fun hi => ?_, cd_chn n l _ h.2⟩
    obtain ⟨a, b, hab⟩ := List.append_of_mem hi
    have h2 := h.2
    rw [hab] at h2
    have h3 := cd_cha a _ h2
    have h4 := (cd_chd _ _ _ _ _ h2 h3 n n).1
    have h5 := congrArg List.length h4
    rw [List.length_append, List.length_cons] at h5
    omega
theorem cd_chu {d : Nat → cd_V} {k : Nat} {x e : cd_V} : ∀ (l : List Nat) (v : cd_V), cd_ch d l v e → k ∉ l → cd_ch (cd_uv d k x) l v e
  | [], v, h, _ => h
  | i :: l, v, h, hk => by
    have hik : i ≠ k := fun z => hk (by rw [z]; exact List.mem_cons_self)
    refine ⟨h.1, ?_⟩
    rw [cd_uvd hik]
    exact cd_chu l _ h.2 (fun z => hk (List.mem_cons_of_mem _ z))
def cd_rv : List Nat → (Nat → cd_V) → cd_V → (Nat → cd_V)
  | [], d, _ => d
  | i :: l, d, w => cd_rv l (cd_uv d i w) (cd_p i)
def cd_lv : List Nat → cd_V → cd_V
  | [], w => w
  | i :: l, _ => cd_lv l (cd_p i)
theorem cd_lva (i : Nat) : ∀ (a : List Nat) (w : cd_V), cd_lv (a ++ [i]) w = cd_p i
  | [], w => rfl
  | _ :: a, w => cd_lva i a _
theorem cd_lvr {d : Nat → cd_V} {w : cd_V} : ∀ (l : List Nat) (v : cd_V), cd_ch d l v w → cd_lv l.reverse w = v
  | [], v, h => Eq.symm h
  | i :: l, v, h => by
    rw [List.reverse_cons, cd_lva]
    exact h.1.symm
theorem cd_rva (i : Nat) : ∀ (a : List Nat) (d : Nat → cd_V) (w : cd_V), cd_rv (a ++ [i]) d w = cd_uv (cd_rv a d w) i (cd_lv a w)
  | [], d, w => rfl
  | _ :: a, d, w => cd_rva i a _ _
theorem cd_uu {d : Nat → cd_V} {i : Nat} {w : cd_V} : cd_uv (cd_uv d i w) i (d i) = d := by
  funext j
  by_cases e : j = i
  · rw [e, cd_uvs]
  · rw [cd_uvd e, cd_uvd e]
/-- twice reversed -/
theorem cd_rv2 {x : cd_V} (n : cd_np x) : ∀ (l : List Nat) (d : Nat → cd_V) (v w : cd_V), cd_ch d l v x → l.Nodup → cd_rv l.reverse (cd_rv l d w) x = d
  | [], d, v, w, h, _ => rfl
  | i :: l, d, v, w, h, hn => by
    have hn' := List.nodup_cons.mp hn
    have h1 : cd_ch (cd_uv d i w) l (d i) x := cd_chu l _ h.2 hn'.1
    rw [List.reverse_cons, cd_rva]
    show cd_uv (cd_rv l.reverse (cd_rv l (cd_uv d i w) (cd_p i)) x) i (cd_lv l.reverse x) = d
    rw [cd_rv2 n l (cd_uv d i w) (d i) (cd_p i) h1 hn'.2, cd_lvr l _ h.2]
    exact cd_uu
/-- the chain of the reversed list -/
theorem cd_chr {x : cd_V} : ∀ (l : List Nat) (d : Nat → cd_V) (v w e : cd_V) (m : List Nat), cd_ch d l v e → cd_ch d m w x → (∀ j, j ∈ l → j ∉ m) → l.Nodup → cd_ch (cd_rv l d w) (l.reverse ++ m) (cd_lv l w) x
  | [], d, v, w, e, m, _, h, _, _ => h
  | i :: l, d, v, w, e, m, h, hm, hd, hn => by
    have hn' := List.nodup_cons.mp hn
    have him : i ∉ m := hd i List.mem_cons_self
    rw [List.reverse_cons, List.append_assoc]
    refine cd_chr l (cd_uv d i w) (d i) (cd_p i) e (i :: m) (cd_chu l _ h.2 hn'.1) ⟨rfl, ?_⟩ (fun j hj hj2 => ?_) hn'.2
    · rw [cd_uvs]
      exact cd_chu m _ hm him
    · rcases List.mem_cons.mp hj2 with z | z
      · exact hn'.1 (by rw [← z]; exact hj)
      · exact hd j (List.mem_cons_of_mem _ hj) z
/-! ===== steady heap: where a reference lies, a canonical picture, changes ===== -/
theorem cd_loc {lo hi a : Nat} {K : Nat → Nat} {T C M : Nat → Int32} (hw : cd_W lo hi K T C M) (hh : hi ≤ 320) (ha : cd_R K a) :
    ∃ s, K s = 1 ∧ cd_st T C a s ∧ (M s = 0 → s + 1 < 320) ∧ (s = a ∨ (K a = 2 ∧ M s = 0)) ∧ (∀ nm car cdr, cd_A K nm T C M car cdr → nm s = nm a) := by
  obtain ⟨w1, w2, w3, w4⟩ := hw
  have hm : ∀ s, K s = 1 → M s = 0 → s + 1 < 320 := fun s hs z => by
    have := w1 (s + 1) (by rw [(w2 s hs).2.1 z]; omega)
    omega
  rcases ha with ha | ha | ha
  · have hz := w1 a (by omega)
    exact ⟨a, ha, ⟨by omega, by omega, cd_okn (w2 a ha).1, Or.inl rfl⟩, hm a ha, Or.inl rfl, fun nm car cdr _ => rfl⟩
  · have hz := w1 a (by omega)
    obtain ⟨x1, n, x2, x3, x4⟩ := w3 a ha
    have hz2 := w1 n (by omega)
    exact ⟨n, x3, ⟨by omega, by omega, cd_okn (w2 n x3).1, Or.inr ⟨x1, x2⟩⟩, hm n x3, Or.inr ⟨ha, x4⟩, fun nm car cdr hA => hA.2.1 a n ha x2 x3⟩
  · have hz := w1 a (by omega)
    omega
theorem cd_can {lo hi p : Nat} {K : Nat → Nat} {hs : List Nat} {T C M A D : Nat → Int32} (h : cd_I lo hi p K hs T C M A D) : ∃ (nm : Nat → Nat) (car cdr reg : Nat → cd_V), cd_G K nm T C M A D car cdr reg := by
  obtain ⟨i1, i2, i3, ⟨w1, w2, w3, w4⟩, i5, i6, i7, i8⟩ := h
  obtain ⟨nm, hnm⟩ : ∃ nm : Nat → Nat, nm = fun a => if T a = 3 then (C a).toNatClampNeg else a := ⟨_, rfl⟩
  have h1 : ∀ a, K a = 1 → nm a = a := fun a ha => by
    rw [hnm]
    exact if_neg (cd_okn (w2 a ha).1)
  refine ⟨nm, fun i => cd_v nm (T i) (C i), fun i => cd_d nm T C M i, fun r => cd_v nm (A r) (D r), ⟨fun a ha => ?_, fun a n ha hc hn => ?_, fun a c ha hc e => ?_⟩, fun r _ => rfl⟩
  · rw [h1 a ha]
    exact ⟨rfl, rfl⟩
  · rw [h1 n hn, hnm]
    have hz := w1 n (by omega)
    show n = if T a = 3 then (C a).toNatClampNeg else a
    rw [if_pos (w3 a ha).1, hc, nI_clamp (by omega)]
  · rw [h1 a ha, h1 c hc] at e
    exact e
end
section
/-! ===== changeCdr ===== -/
theorem cd_Rb {lo hi : Nat} {K : Nat → Nat} {T C M : Nat → Int32} (hw : cd_W lo hi K T C M) (hh : hi ≤ 320) : ∀ n, cd_R K n → n < 2 ^ 31 := fun n hn => by
  have := hw.1 n (by unfold cd_R at hn; omega)
  omega
/-- the cdr cell of a head is written -/
theorem cd_wr {lo hi s : Nat} {K nm : Nat → Nat} {T C M : Nat → Int32} {car cdr : Nat → cd_V} {t c : Int32} (hw : cd_W lo hi K T C M) (hh : hi ≤ 320) (hA : cd_A K nm T C M car cdr) (hs : K s = 1) (m0 : M s = 0) (hv : cd_ok (cd_R K) t c) :
    cd_W lo hi K (upd T (s + 1) t) (upd C (s + 1) c) M ∧ cd_A K nm (upd T (s + 1) t) (upd C (s + 1) c) M car (cd_uv cdr (nm s) (cd_v nm t c)) := by
  obtain ⟨w1, w2, w3, w4⟩ := hw
  obtain ⟨a1, a2, a3⟩ := hA
  have k3 : K (s + 1) = 3 := (w2 s hs).2.1 m0
  have ne : ∀ a, K a ≠ 3 → a ≠ s + 1 := fun a ha e => ha (by rw [e]; exact k3)
  refine ⟨⟨w1, fun a ha => ?_, fun a ha => ?_, fun a ha => ?_⟩, ⟨fun a ha => ?_, fun a n ha => ?_, a3⟩⟩
  · rw [pk_un (ne a (by omega)), pk_un (ne a (by omega))]
    exact w2 a ha
  · rw [pk_un (ne a (by omega)), pk_un (ne a (by omega))]
    exact w3 a ha
  · by_cases e : a = s + 1
    · rw [e, pk_us, pk_us]
      exact hv
    · rw [pk_un e, pk_un e]
      exact w4 a ha
  · rw [pk_un (ne a (by omega)), pk_un (ne a (by omega))]
    refine ⟨(a1 a ha).1, ?_⟩
    by_cases e : a = s
    · rw [e, cd_d0 m0, pk_us, pk_us, cd_uvs]
    · rw [cd_uvd (fun z => e (a3 a s ha hs z)), ← (a1 a ha).2]
      have hz := w1 a (by omega)
      refine cd_dcg (by omega) rfl (fun z => ?_) (fun _ => rfl)
      rw [pk_un (by omega), pk_un (by omega)]
  · rw [pk_un (ne a (by omega))]
    exact a2 a n ha
/-- a compact head's cdr becomes nil -/
theorem cd_en {lo hi s : Nat} {K nm : Nat → Nat} {T C M : Nat → Int32} {car cdr : Nat → cd_V} {c : Int32} (hw : cd_W lo hi K T C M) (hh : hi ≤ 320) (hA : cd_A K nm T C M car cdr) (hs : K s = 1) (m0 : ¬ M s = 0) :
    cd_W lo hi K T C (upd M s 2) ∧ cd_A K nm T C (upd M s 2) car (cd_uv cdr (nm s) (cd_v nm 0 c)) := by
  obtain ⟨w1, w2, w3, w4⟩ := hw
  obtain ⟨a1, a2, a3⟩ := hA
  refine ⟨⟨w1, fun a ha => ?_, fun a ha => ?_, w4⟩, ⟨fun a ha => ?_, a2, a3⟩⟩
  · obtain ⟨x1, x2, x3⟩ := w2 a ha
    by_cases e : a = s
    · rw [e] at x1 ⊢
      rw [pk_us]
      exact ⟨x1, fun z => absurd z (by decide), fun z => absurd z (by decide)⟩
    · rw [pk_un e]
      exact ⟨x1, x2, x3⟩
  · obtain ⟨x1, n, x2, x3, x4⟩ := w3 a ha
    refine ⟨x1, n, x2, x3, ?_⟩
    rw [pk_un (fun z => m0 (by rw [← z]; exact x4))]
    exact x4
  · refine ⟨(a1 a ha).1, ?_⟩
    by_cases e : a = s
    · rw [e, cd_d2 (by rw [pk_us]; decide) (by rw [pk_us]; decide), cd_uvs, cd_v0]
    · rw [cd_uvd (fun z => e (a3 a s ha hs z)), ← (a1 a ha).2]
      have hz := w1 a (by omega)
      exact cd_dcg (by omega) (pk_un e) (fun z => rfl) (fun _ => rfl)
/-- a compact head moves to two cells -/
theorem cd_mv {lo m s : Nat} {K nm : Nat → Nat} {T C M : Nat → Int32} {car cdr : Nat → cd_V} {t c : Int32} (hw : cd_W lo m K T C M) (hlm : lo ≤ m) (hh : m + 2 ≤ 320) (hA : cd_A K nm T C M car cdr) (hs : K s = 1) (m0 : ¬ M s = 0) (hv : cd_ok (cd_R K) t c) :
    cd_W lo (m + 2) (cd_un (cd_un (cd_un K m 1) (m + 1) 3) s 2) (upd (upd (upd T m (T s)) (m + 1) t) s 3) (upd (upd (upd C m (C s)) (m + 1) c) s (nI m)) (upd M m 0) ∧
    cd_A (cd_un (cd_un (cd_un K m 1) (m + 1) 3) s 2) (cd_un nm m (nm s)) (upd (upd (upd T m (T s)) (m + 1) t) s 3) (upd (upd (upd C m (C s)) (m + 1) c) s (nI m)) (upd M m 0) car (cd_uv cdr (nm s) (cd_v nm t c)) ∧
    (∀ n, cd_R K n → cd_R (cd_un (cd_un (cd_un K m 1) (m + 1) 3) s 2) n ∧ cd_un nm m (nm s) n = nm n) := by
  have hRb := cd_Rb hw (by omega)
  obtain ⟨w1, w2, w3, w4⟩ := hw
  obtain ⟨a1, a2, a3⟩ := hA
  have hsz := w1 s (by omega)
  have sm : s ≠ m := by omega
  have sm1 : s ≠ m + 1 := by omega
  have mm : m ≠ m + 1 := by omega
  obtain ⟨K', hK'⟩ : ∃ K', K' = cd_un (cd_un (cd_un K m 1) (m + 1) 3) s 2 := ⟨_, rfl⟩
  obtain ⟨T', hT'⟩ : ∃ T', T' = upd (upd (upd T m (T s)) (m + 1) t) s 3 := ⟨_, rfl⟩
  obtain ⟨C', hC'⟩ : ∃ C', C' = upd (upd (upd C m (C s)) (m + 1) c) s (nI m) := ⟨_, rfl⟩
  obtain ⟨nm', hN'⟩ : ∃ nm', nm' = cd_un nm m (nm s) := ⟨_, rfl⟩
  rw [← hK', ← hT', ← hC', ← hN']
  have Km : K' m = 1 := by rw [hK', cd_ud sm.symm, cd_ud mm, cd_us]
  have Km1 : K' (m + 1) = 3 := by rw [hK', cd_ud sm1.symm, cd_us]
  have Ks : K' s = 2 := by rw [hK', cd_us]
  have Tm : T' m = T s := by rw [hT', pk_un sm.symm, pk_un mm, pk_us]
  have Tm1 : T' (m + 1) = t := by rw [hT', pk_un sm1.symm, pk_us]
  have Ts : T' s = 3 := by rw [hT', pk_us]
  have Cm : C' m = C s := by rw [hC', pk_un sm.symm, pk_un mm, pk_us]
  have Cm1 : C' (m + 1) = c := by rw [hC', pk_un sm1.symm, pk_us]
  have Cs : C' s = nI m := by rw [hC', pk_us]
  have Nm : nm' m = nm s := by rw [hN', cd_us]
  have Nn : ∀ n, n ≠ m → nm' n = nm n := fun n hn => by rw [hN', cd_ud hn]
  have oth : ∀ a, K a ≠ 0 → a ≠ s → K' a = K a ∧ T' a = T a ∧ C' a = C a ∧ a ≠ m ∧ a ≠ m + 1 := fun a ha e => by
    have hz := w1 a ha
    have e1 : a ≠ m := by omega
    have e2 : a ≠ m + 1 := by omega
    exact ⟨by rw [hK', cd_ud e, cd_ud e2, cd_ud e1], by rw [hT', pk_un e, pk_un e2, pk_un e1], by rw [hC', pk_un e, pk_un e2, pk_un e1], e1, e2⟩
  have inv : ∀ a, K' a ≠ 0 → a = m ∨ a = m + 1 ∨ a = s ∨ (a ≠ s ∧ K a = K' a ∧ K a ≠ 0) := fun a ha => by
    by_cases e1 : a = m
    · exact Or.inl e1
    by_cases e2 : a = m + 1
    · exact Or.inr (Or.inl e2)
    by_cases e3 : a = s
    · exact Or.inr (Or.inr (Or.inl e3))
    have : K' a = K a := by rw [hK', cd_ud e3, cd_ud e2, cd_ud e1]
    exact Or.inr (Or.inr (Or.inr ⟨e3, this.symm, by rw [← this]; exact ha⟩))
  have hR : ∀ n, cd_R K n → cd_R K' n ∧ nm' n = nm n := fun n hn => by
    have hz := w1 n (by unfold cd_R at hn; omega)
    refine ⟨?_, Nn n (by omega)⟩
    by_cases e : n = s
    · rw [e]
      exact Or.inr (Or.inl Ks)
    · unfold cd_R
      rw [(oth n (by unfold cd_R at hn; omega) e).1]
      exact hn
  have hvc : ∀ t c, cd_ok (cd_R K) t c → cd_v nm' t c = cd_v nm t c := fun t c h => cd_vc h (fun n hn => ⟨hRb n hn, (hR n hn).2⟩)
  have hok : ∀ t c, cd_ok (cd_R K) t c → cd_ok (cd_R K') t c := fun t c h => cd_okm h (fun n hn => (hR n hn).1)
  refine ⟨⟨fun a ha => ?_, fun a ha => ?_, fun a ha => ?_, fun a ha => ?_⟩, ⟨fun a ha => ?_, fun a n ha hc hn => ?_, fun a d ha hd e => ?_⟩, hR⟩
  · rcases inv a ha with e | e | e | ⟨e, e1, e2⟩
    · rw [e, Km]
      omega
    · rw [e, Km1]
      omega
    · rw [e, Ks]
      omega
    · have := w1 a e2
      omega
  · rcases inv a (by omega) with e | e | e | ⟨e, e1, e2⟩
    · rw [e, Tm, Cm, pk_us]
      exact ⟨hok _ _ (w2 s hs).1, fun _ => Km1, fun z => absurd z (by decide)⟩
    · rw [e] at ha
      omega
    · rw [e] at ha
      omega
    · obtain ⟨x1, x2, x3⟩ := w2 a (by omega)
      obtain ⟨y1, y2, y3, y4, y5⟩ := oth a e2 e
      rw [y2, y3, pk_un y4]
      refine ⟨hok _ _ x1, fun z => ?_, fun z => (hR _ (x3 z)).1⟩
      have := x2 z
      rw [(oth (a + 1) (by omega) (fun q => by rw [q] at this; omega)).1]
      exact this
  · rcases inv a (by omega) with e | e | e | ⟨e, e1, e2⟩
    · rw [e] at ha
      omega
    · rw [e] at ha
      omega
    · rw [e]
      exact ⟨Ts, m, Cs, Km, pk_us⟩
    · obtain ⟨x1, n, x2, x3, x4⟩ := w3 a (by omega)
      obtain ⟨y1, y2, y3, y4, y5⟩ := oth a e2 e
      have hns : n ≠ s := fun z => m0 (by rw [← z]; exact x4)
      obtain ⟨u1, u2, u3, u4, u5⟩ := oth n (by omega) hns
      exact ⟨by rw [y2]; exact x1, n, by rw [y3]; exact x2, by rw [u1]; exact x3, by rw [pk_un u4]; exact x4⟩
  · rcases inv a (by omega) with e | e | e | ⟨e, e1, e2⟩
    · rw [e] at ha
      omega
    · rw [e, Tm1, Cm1]
      exact hok _ _ hv
    · rw [e] at ha
      omega
    · obtain ⟨y1, y2, y3, y4, y5⟩ := oth a e2 e
      rw [y2, y3]
      exact hok _ _ (w4 a (by omega))
  · rcases inv a (by omega) with e | e | e | ⟨e, e1, e2⟩
    · rw [e, Tm, Cm, Nm, cd_d0 pk_us, Tm1, Cm1, cd_uvs, hvc _ _ (w2 s hs).1, hvc _ _ hv]
      exact ⟨(a1 s hs).1, rfl⟩
    · rw [e] at ha
      omega
    · rw [e] at ha
      omega
    · have hk : K a = 1 := by omega
      obtain ⟨x1, x2, x3⟩ := w2 a hk
      obtain ⟨y1, y2, y3, y4, y5⟩ := oth a e2 e
      have hz := w1 a e2
      rw [y2, y3, Nn a y4, hvc _ _ x1, cd_uvd (fun z => e (a3 a s hk hs z)), ← (a1 a hk).2]
      refine ⟨(a1 a hk).1, cd_dcg (by omega) (pk_un y4) (fun z => ?_) (fun z => (hR _ (x3 z)).2)⟩
      have k3 := x2 z
      obtain ⟨u1, u2, u3, u4, u5⟩ := oth (a + 1) (by omega) (fun q => by rw [q] at k3; omega)
      rw [u2, u3, hvc _ _ (w4 _ k3)]
  · have hn320 : n < m + 2 := by
      rcases inv n (by omega) with e | e | e | ⟨e, e1, e2⟩
      · omega
      · omega
      · omega
      · have := w1 n e2
        omega
    rcases inv a (by omega) with e | e | e | ⟨e, e1, e2⟩
    · rw [e] at ha
      omega
    · rw [e] at ha
      omega
    · rw [e, Cs] at hc
      have : m = n := (nI_eq (by omega) (by omega)).mp hc
      rw [e, ← this, Nm, Nn s sm]
    · obtain ⟨y1, y2, y3, y4, y5⟩ := oth a e2 e
      rw [y3] at hc
      obtain ⟨x1, n0, x2, x3, x4⟩ := w3 a (by omega)
      have hz := w1 n0 (by omega)
      have en : n = n0 := (nI_eq (by omega) (by omega)).mp (hc.symm.trans x2)
      rw [Nn a y4, Nn n (by omega)]
      exact a2 a n (by omega) hc (by rw [en]; exact x3)
  · have aux : ∀ w, K' w = 1 → w = m ∨ (w ≠ m ∧ K w = 1 ∧ w ≠ s) := fun w hw => by
      rcases inv w (by omega) with e | e | e | ⟨e, e1, e2⟩
      · exact Or.inl e
      · rw [e] at hw
        omega
      · rw [e] at hw
        omega
      · exact Or.inr ⟨(oth w e2 e).2.2.2.1, by omega, e⟩
    rcases aux a ha with ex | ⟨ex1, ex2, ex3⟩
    · rcases aux d hd with ey | ⟨ey1, ey2, ey3⟩
      · omega
      · rw [ex, Nm, Nn d ey1] at e
        exact absurd (a3 s d hs ey2 e).symm ey3
    · rcases aux d hd with ey | ⟨ey1, ey2, ey3⟩
      · rw [ey, Nm, Nn a ex1] at e
        exact absurd (a3 a s ex2 hs e) ex3
      · rw [Nn a ex1, Nn d ey1] at e
        exact a3 a d ex2 ey2 e
theorem cd_chg {post : St1 → Prop} {lo hi p a : Nat} {K nm : Nat → Nat} {hs : List Nat} {T C M A D : Nat → Int32} {E F : Nat → Int64} {g k t c : Int32} {car cdr : Nat → cd_V}
    (h : cd_I lo hi p K hs T C M A D) (hA : cd_A K nm T C M car cdr) (ha : cd_R K a) (hv : cd_ok (cd_R K) t c) (hf : ¬ t = 0 → hi + 2 ≤ lo + 160)
    (H : ∀ (hi' : Nat) (K' nm' : Nat → Nat) (hs' : List Nat) (T' C' M' : Nat → Int32), cd_I lo hi' p K' hs' T' C' M' A D → cd_A K' nm' T' C' M' car (cd_uv cdr (nm a) (cd_v nm t c)) → (∀ n, cd_R K n → cd_R K' n ∧ nm' n = nm n) → hi' ≤ hi + 2 → post (nI lo, nI hi', nI p, g, k, T', C', M', A, D, E, F)) :
    wpX_changeCdr post (nI lo, nI hi, nI p, g, k, T, C, M, A, D, E, F) (nI a) t c := by
  obtain ⟨i1, i2, i3, hw, i5, i6, i7, i8⟩ := h
  have hh : hi ≤ 320 := by omega
  obtain ⟨s, s1, s2, s3, s4, s5⟩ := cd_loc hw hh ha
  have s320 : s < 320 := s2.2.1
  have sh := hw.1 s (by omega)
  rw [← s5 nm car cdr hA] at H
  have es : (nI s).toNatClampNeg = s := nI_clamp (by omega)
  unfold wpX_changeCdr
  refine cd_settle s2 ⟨pk_in s 320 s320, ?_⟩
  rw [es]
  by_cases m0 : M s = 0
  · refine br_t m0 ?_
    rw [nI_1]
    refine cd_put_3 (s3 m0) ?_
    obtain ⟨h1, h2⟩ := cd_wr hw hh hA s1 m0 hv
    exact H hi K nm hs _ _ _ ⟨i1, i2, i3, h1, i5, i6, i7, i8⟩ h2 (fun n hn => ⟨hn, rfl⟩) (by omega)
  · refine br_f m0 ?_
    by_cases t0 : t = 0
    · subst t0
      obtain ⟨h1, h2⟩ := cd_en (c := c) hw hh hA s1 m0
      exact br_t rfl ⟨pk_in s 320 s320, nm_e (H hi K nm hs _ _ _ ⟨i1, i2, i3, h1, i5, i6, i7, i8⟩ h2 (fun n hn => ⟨hn, rfl⟩) (by omega))⟩
    · have hf' := hf t0
      refine br_f t0 (nm_r (e' := nI (hi + 2)) (nI_add hi 2) ⟨pk_in s 320 s320, pk_in s 320 s320, ?_⟩)
      refine cd_put_3 (show hi < 320 by omega) ?_
      refine ⟨pk_in hi 320 (by omega), nm_r (e' := upd M hi 0) (by rw [nI_clamp (by omega)]) ?_⟩
      rw [nI_1]
      refine cd_put_3 (show hi + 1 < 320 by omega) (cd_put_3 s320 ?_)
      obtain ⟨h1, h2, h3⟩ := cd_mv hw i2 (by omega) hA s1 m0 hv
      refine H (hi + 2) _ _ (hs.map (fun x => if x = s then hi else x)) _ _ _ ⟨i1, by omega, hf', h1, fun r hr => cd_okm (i5 r hr) (fun n hn => (h3 n hn).1), fun a ha => ?_, by rw [List.length_map]; exact i7, i8⟩ h2 h3 (by omega)
      by_cases e : a = hi
      · exact List.mem_map.mpr ⟨s, i6 s s1, by rw [if_pos rfl, e]⟩
      · by_cases e1 : a = s
        · rw [e1, cd_us] at ha
          omega
        · by_cases e2 : a = hi + 1
          · rw [cd_ud e1, e2, cd_us] at ha
            omega
          · rw [cd_ud e1, cd_ud e2, cd_ud e] at ha
            exact List.mem_map.mpr ⟨a, i6 a ha, if_neg e1⟩
end
section
/-! ===== need, mayMake, live; spine, length, proper; registers ===== -/
def cd_J (u : St1) : Prop := ∃ (lo hi p : Nat) (K : Nat → Nat) (hs : List Nat) (g k : Int32) (T C M A D : Nat → Int32) (E F : Nat → Int64), u = (nI lo, nI hi, nI p, g, k, T, C, M, A, D, E, F) ∧ cd_I lo hi p K hs T C M A D
section
variable {lo hi p : Nat} {K nm : Nat → Nat} {hs : List Nat} {T C M A D : Nat → Int32} {E F : Nat → Int64} {g k : Int32} {car cdr reg : Nat → cd_V}
theorem cd_Ji (h : cd_I lo hi p K hs T C M A D) : cd_J (nI lo, nI hi, nI p, g, k, T, C, M, A, D, E, F) := ⟨lo, hi, p, K, hs, g, k, T, C, M, A, D, E, F, rfl, h⟩
theorem cd_need {post : St1 → Prop} {n : Nat} (h : cd_I lo hi p K hs T C M A D) (hG : cd_G K nm T C M A D car cdr reg) (hn : n ≤ 96)
    (H : ∀ (lo' hi' p' : Nat) (K' nm' : Nat → Nat) (hs' : List Nat) (T' C' M' D' : Nat → Int32) (g' k' : Int32), cd_I lo' hi' p' K' hs' T' C' M' A D' → cd_G K' nm' T' C' M' A D' car cdr reg → hi' + n ≤ lo' + 160 → p' ≤ p → post (nI lo', nI hi', nI p', g', k', T', C', M', A, D', E, F)) :
    wpX_need post (nI lo, nI hi, nI p, g, k, T, C, M, A, D, E, F) (nI n) := by
  have h1 := h.1
  have h3 := h.2.2.1
  unfold wpX_need
  refine pk_le (hi + n) (lo + 160) (fun z => H lo hi p K nm hs T C M D g k h hG z (Nat.le_refl _)) (fun z => ?_) (nI_add hi n) (nI_add lo 160)
  refine cd_collect h hG (fun lo' hi' K' nm' hs' dn T' C' M' D' g' k' a1 a2 a3 a4 a5 a6 a7 => ?_)
  exact H lo' hi' dn.length K' nm' hs' T' C' M' D' g' k' a1 a2 (by omega) a5
theorem cd_mm {post : Int32 → St1 → Prop} {n : Nat} (h : cd_I lo hi p K hs T C M A D) (hG : cd_G K nm T C M A D car cdr reg) (hn : n ≤ 32)
    (H0 : ∀ u, cd_J u → post 0 u)
    (H : ∀ (lo' hi' p' : Nat) (K' nm' : Nat → Nat) (hs' : List Nat) (T' C' M' D' : Nat → Int32) (g' k' : Int32), cd_I lo' hi' p' K' hs' T' C' M' A D' → cd_G K' nm' T' C' M' A D' car cdr reg → p' + n ≤ 32 → post 1 (nI lo', nI hi', nI p', g', k', T', C', M', A, D', E, F)) :
    wpX_mayMake post (nI lo, nI hi, nI p, g, k, T, C, M, A, D, E, F) (nI n) := by
  have h8 := h.2.2.2.2.2.2.2
  have key : ∀ (lo' hi' p' : Nat) (K' nm' : Nat → Nat) (hs' : List Nat) (T' C' M' D' : Nat → Int32) (g' k' : Int32), cd_I lo' hi' p' K' hs' T' C' M' A D' → cd_G K' nm' T' C' M' A D' car cdr reg → wX_mayMake_15 post (nI n) (nI lo') (nI hi') (nI p') g' k' T' C' M' A D' E F := by
    intro lo' hi' p' K' nm' hs' T' C' M' D' g' k' a1 a2
    have h8' := a1.2.2.2.2.2.2.2
    unfold wX_mayMake_15
    exact pk_lt 32 (p' + n) (fun _ => H0 _ (cd_Ji a1)) (fun z => H lo' hi' p' K' nm' hs' T' C' M' D' g' k' a1 a2 z) rfl (nI_add p' n)
  unfold wpX_mayMake
  refine pk_le (p + n) 32 (fun z => key lo hi p K nm hs T C M D g k h hG) (fun z => ?_) (nI_add p n)
  exact cd_collect h hG (fun lo' hi' K' nm' hs' dn T' C' M' D' g' k' a1 a2 a3 a4 a5 a6 a7 => key lo' hi' dn.length K' nm' hs' T' C' M' D' g' k' a1 a2)
theorem cd_live {post : Int32 → St1 → Prop} (h : cd_I lo hi p K hs T C M A D) (hG : cd_G K nm T C M A D car cdr reg)
    (H : ∀ (lo' hi' : Nat) (K' nm' : Nat → Nat) (hs' dn : List Nat) (T' C' M' D' : Nat → Int32) (g' k' : Int32), cd_I lo' hi' dn.length K' hs' T' C' M' A D' → cd_G K' nm' T' C' M' A D' car cdr reg → dn.Nodup → (∀ i, i ∈ dn ↔ cd_rch car cdr reg i) → post (nI dn.length) (nI lo', nI hi', nI dn.length, g', k', T', C', M', A, D', E, F)) :
    wpX_live post (nI lo, nI hi, nI p, g, k, T, C, M, A, D, E, F) := by
  unfold wpX_live
  exact cd_collect h hG (fun lo' hi' K' nm' hs' dn T' C' M' D' g' k' a1 a2 a3 a4 a5 a6 a7 => H lo' hi' K' nm' hs' dn T' C' M' D' g' k' a1 a2 a6 a7)
/-- one step along the spine -/
theorem cd_nxt {b f q : Int32} {post : St1 → Prop} {a : Nat} (hw : cd_W lo hi K T C M) (hh : hi ≤ 320) (hA : cd_A K nm T C M car cdr) (ha : cd_R K a)
    (H : ∀ g' k', cd_ok (cd_R K) g' k' → cd_v nm g' k' = cdr (nm a) → post (b, f, q, g', k', T, C, M, A, D, E, F)) : wpX_gotCdr post (b, f, q, g, k, T, C, M, A, D, E, F) (nI a) := by
  obtain ⟨s, s1, s2, s3, s4, s5⟩ := cd_loc hw hh ha
  refine cd_gotCdr s2 s3 (H _ _ (cd_dok (fun z => hw.2.2.2 _ ((hw.2.1 s s1).2.1 z)) (hw.2.1 s s1).2.2) ?_)
  rw [← s5 nm car cdr hA]
  exact (hA.1 s s1).2
theorem cd_fst {b f q : Int32} {post : St1 → Prop} {a : Nat} (hw : cd_W lo hi K T C M) (hh : hi ≤ 320) (ha : cd_R K a)
    (H : ∀ g' k', cd_ok (cd_R K) g' k' → post (b, f, q, g', k', T, C, M, A, D, E, F)) : wpX_gotCar post (b, f, q, g, k, T, C, M, A, D, E, F) (nI a) := by
  obtain ⟨s, s1, s2, s3, s4, s5⟩ := cd_loc hw hh ha
  exact cd_gotCar s2 (H _ _ (hw.2.1 s s1).1)
theorem cd_spL {b f q : Int32} {post : Int32 → St1 → Prop} (hw : cd_W lo hi K T C M) (hh : hi ≤ 320) (hA : cd_A K nm T C M car cdr) :
    ∀ (n j : Nat) (g k : Int32), cd_ok (cd_R K) g k → j ≤ 33 → 34 ≤ n + j →
      (∀ l g' k', cd_ok (cd_R K) g' k' → cd_ch cdr l (cd_v nm g k) (cd_v nm g' k') → (j + l.length = 33 ∨ (¬ g' = 2 ∧ j + l.length ≤ 32)) → post (nI (j + l.length)) (b, f, q, g', k', T, C, M, A, D, E, F)) →
      wX_spine_24 post n (nI j) (nI j) b f q g k T C M A D E F := by
  intro n
  induction n with
  | zero =>
    intro j g k hok h1 h2
    omega
  | succ n ih =>
    intro j g k hok h1 h2 H
    refine pk_lt 32 j (fun z => H [] g k hok rfl (Or.inl (by rw [List.length_nil]; omega))) (fun z => ?_)
    by_cases e : g = 2
    · obtain ⟨a, a1, a2⟩ := cd_ok2 hok e
      refine br_t e ?_
      rw [a1]
      refine cd_nxt hw hh hA a2 (fun g' k' b1 b2 => nm_r (nI_1 j) (nm_r (nI_1 j) (ih (j + 1) g' k' b1 (by omega) (by omega) (fun l g2 k2 c1 c2 c3 => ?_))))
      have hp := H (nm a :: l) g2 k2 c1 ⟨by rw [e, a1, cd_v2 (cd_Rb hw hh a a2)], by rw [← b2]; exact c2⟩ (c3.elim (fun z => Or.inl (by rw [List.length_cons]; omega)) (fun z => Or.inr ⟨z.1, by rw [List.length_cons]; have := z.2; omega⟩))
      rw [List.length_cons, show j + (l.length + 1) = j + 1 + l.length by omega] at hp
      exact hp
    · exact br_f e (H [] g k hok rfl (Or.inr ⟨e, by rw [List.length_nil]; omega⟩))
theorem cd_spine {b f q : Int32} {post : Int32 → St1 → Prop} {r : Nat} (hw : cd_W lo hi K T C M) (hh : hi ≤ 320) (hA : cd_A K nm T C M car cdr) (hr : r < 8) (hok : cd_ok (cd_R K) (A r) (D r))
    (H : ∀ l g' k', cd_ok (cd_R K) g' k' → cd_ch cdr l (cd_v nm (A r) (D r)) (cd_v nm g' k') → (l.length = 33 ∨ (¬ g' = 2 ∧ l.length ≤ 32)) → post (nI l.length) (b, f, q, g', k', T, C, M, A, D, E, F)) :
    wpX_spine post (b, f, q, g, k, T, C, M, A, D, E, F) (nI r) := by
  have er : (nI r).toNatClampNeg = r := nI_clamp (by omega)
  unfold wpX_spine
  refine ⟨pk_in r 8 hr, nm_r (e' := A r) (by rw [er]) ⟨pk_in r 8 hr, nm_r (e' := D r) (by rw [er]) ⟨34, ?_⟩⟩⟩
  refine cd_spL hw hh hA 34 0 (A r) (D r) hok (by omega) (by omega) (fun l g' k' a1 a2 a3 => ?_)
  have := H l g' k' a1 a2 (a3.elim (fun z => Or.inl (by omega)) (fun z => Or.inr ⟨z.1, by have := z.2; omega⟩))
  rw [Nat.zero_add]
  exact this
theorem cd_okv0 {R : Nat → Prop} {t c : Int32} (h : cd_ok R t c) (e : ¬ t = 2) : cd_np (cd_v nm t c) ∧ (t = 0 ∨ cd_v nm t c ≠ none) := by
  rcases h with rfl | rfl | ⟨rfl, _⟩
  · rw [cd_v0]
    exact ⟨cd_np0, Or.inl rfl⟩
  · rw [cd_v1]
    refine ⟨fun i z => ?_, Or.inr (Option.some_ne_none _)⟩
    unfold cd_p at z
    injection z with z
    cases z
  · exact absurd rfl e
theorem cd_length {post : Int32 → St1 → Prop} {r : Nat} (h : cd_I lo hi p K hs T C M A D) (hG : cd_G K nm T C M A D car cdr reg) (hr : r < 8)
    (H1 : ∀ l e g' k', cd_ch cdr l (reg r) e → cd_np e → l.length ≤ 32 → post (nI l.length) (nI lo, nI hi, nI p, g', k', T, C, M, A, D, E, F))
    (H2 : ∀ l e g' k', cd_ch cdr l (reg r) e → l.length = 33 → post (-3) (nI lo, nI hi, nI p, g', k', T, C, M, A, D, E, F)) :
    wpX_length post (nI lo, nI hi, nI p, g, k, T, C, M, A, D, E, F) (nI r) := by
  obtain ⟨i1, i2, i3, hw, i5, i6, i7, i8⟩ := h
  unfold wpX_length
  refine cd_bad hr (br_t rfl (cd_spine hw (by omega) hG.1 hr (i5 r hr) (fun l g' k' a1 a2 a3 => ?_)))
  rw [hG.2 r hr] at a2
  refine pk_le l.length 32 (fun z => ?_) (fun z => H2 l _ g' k' a2 (by omega)) rfl rfl (by omega)
  rcases a3 with a3 | ⟨a3, a4⟩
  · omega
  · exact H1 l _ g' k' a2 (cd_okv0 a1 a3).1 z
theorem cd_proper {post : Int32 → St1 → Prop} {r : Nat} (h : cd_I lo hi p K hs T C M A D) (hG : cd_G K nm T C M A D car cdr reg) (hr : r < 8)
    (H1 : ∀ l g' k', cd_ch cdr l (reg r) none → l.length ≤ 32 → post (nI l.length) (nI lo, nI hi, nI p, g', k', T, C, M, A, D, E, F))
    (H2 : ∀ g' k', (∀ l, cd_ch cdr l (reg r) none → l.length ≤ 32 → False) → post (-3) (nI lo, nI hi, nI p, g', k', T, C, M, A, D, E, F)) :
    wpX_proper post (nI lo, nI hi, nI p, g, k, T, C, M, A, D, E, F) (nI r) := by
  obtain ⟨i1, i2, i3, hw, i5, i6, i7, i8⟩ := h
  unfold wpX_proper
  refine cd_spine hw (by omega) hG.1 hr (i5 r hr) (fun l g' k' a1 a2 a3 => ?_)
  rw [hG.2 r hr] at a2
  refine pk_lt 32 l.length (fun z => H2 g' k' (fun l0 b1 b2 => ?_)) (fun z => ?_) rfl rfl (by omega) (by omega)
  · have := cd_chlt _ _ _ _ _ b1 a2 cd_np0
    omega
  · rcases a3 with a3 | ⟨a3, a4⟩
    · omega
    · obtain ⟨n1, n2⟩ := cd_okv0 (nm := nm) a1 a3
      by_cases e : g' = 0
      · refine br_t e (H1 l g' k' ?_ z)
        rw [e, cd_v0] at a2
        exact a2
      · refine br_f e (H2 g' k' (fun l0 b1 b2 => ?_))
        have := (cd_chd _ _ _ _ _ b1 a2 cd_np0 n1).2
        rcases n2 with n2 | n2
        · exact e n2
        · exact n2 this.symm
theorem cd_sr {r : Nat} {t c : Int32} (h : cd_I lo hi p K hs T C M A D) (hv : cd_ok (cd_R K) t c) : cd_I lo hi p K hs T C M (upd A r t) (upd D r c) := by
  obtain ⟨i1, i2, i3, hw, i5, i6, i7, i8⟩ := h
  refine ⟨i1, i2, i3, hw, fun q hq => ?_, i6, i7, i8⟩
  by_cases e : q = r
  · rw [e, pk_us, pk_us]
    exact hv
  · rw [pk_un e, pk_un e]
    exact i5 q hq
theorem cd_srG {r : Nat} {t c : Int32} (h : cd_G K nm T C M A D car cdr reg) : cd_G K nm T C M (upd A r t) (upd D r c) car cdr (cd_uv reg r (cd_v nm t c)) := by
  refine ⟨h.1, fun q hq => ?_⟩
  by_cases e : q = r
  · rw [e, pk_us, pk_us, cd_uvs]
  · rw [pk_un e, pk_un e, cd_uvd e]
    exact h.2 q hq
theorem cd_copy {post : Int32 → St1 → Prop} {r s : Nat} (h : cd_I lo hi p K hs T C M A D) (hr : r < 8) (hs8 : s < 8)
    (H : post 0 (nI lo, nI hi, nI p, g, k, T, C, M, upd A r (A s), upd D r (D s), E, F)) : wpX_copy post (nI lo, nI hi, nI p, g, k, T, C, M, A, D, E, F) (nI r) (nI s) := by
  have es : (nI s).toNatClampNeg = s := nI_clamp (by omega)
  unfold wpX_copy
  refine cd_bad hr (br_t rfl (cd_bad hs8 (br_t rfl ⟨pk_in s 8 hs8, pk_in s 8 hs8, ?_⟩)))
  rw [es]
  exact cd_setReg hr H
/-- same answers whether the two registers hold the same value -/
theorem cd_same {post : Int32 → Prop} {r s : Nat} (h : cd_I lo hi p K hs T C M A D) (hG : cd_G K nm T C M A D car cdr reg) (hr : r < 8) (hs8 : s < 8)
    (H1 : reg r = reg s → post 1) (H0 : reg r ≠ reg s → post 0) : wpX_same post (nI lo, nI hi, nI p, g, k, T, C, M, A, D, E, F) (nI r) (nI s) := by
  obtain ⟨i1, i2, i3, hw, i5, i6, i7, i8⟩ := h
  have er : (nI r).toNatClampNeg = r := nI_clamp (by omega)
  have es : (nI s).toNatClampNeg = s := nI_clamp (by omega)
  have hh : hi ≤ 320 := by omega
  rw [← hG.2 r hr, ← hG.2 s hs8] at H1 H0
  have b1 : narrow .boolean (.int 1) = .int 1 := by rfl
  have b0 : narrow .boolean (.int 0) = .int 0 := by rfl
  unfold wpX_same
  refine cd_bad hr (br_t rfl (cd_bad hs8 (br_t rfl ⟨pk_in r 8 hr, pk_in r 8 hr, pk_in s 8 hs8, pk_in s 8 hs8, ?_⟩)))
  rw [er, es]
  have o1 := i5 r hr
  have o2 := i5 s hs8
  revert o1 o2 H1 H0
  generalize A r = t1
  generalize A s = t2
  generalize D r = c1
  generalize D s = c2
  intro H1 H0 o1 o2
  unfold wpX_sameValue
  by_cases e : t1 = t2
  · subst e
    refine br_t rfl ?_
    by_cases e2 : t1 = 2
    · subst e2
      refine br_t rfl ?_
      obtain ⟨a, a1, a2⟩ := cd_ok2 o1 rfl
      obtain ⟨c, a3, a4⟩ := cd_ok2 o2 rfl
      subst a1
      subst a3
      obtain ⟨x, x1, x2, x3, x4, x5⟩ := cd_loc hw hh a2
      obtain ⟨y, y1, y2, y3, y4, y5⟩ := cd_loc hw hh a4
      have x6 := x2.2.1
      have y6 := y2.2.1
      rw [cd_v2 (cd_Rb hw hh a a2), cd_v2 (cd_Rb hw hh c a4), ← x5 nm car cdr hG.1, ← y5 nm car cdr hG.1] at H1 H0
      refine cd_settle x2 (cd_settle y2 (pk_eq x y (fun z => ⟨b1, H1 (by rw [z])⟩) (fun z => ⟨b0, H0 (fun q => z (hG.1.2.2 x y x1 y1 (cd_pi q)))⟩)))
    · refine br_f e2 ?_
      rcases o1 with z | z | ⟨z, _⟩
      · subst z
        rw [cd_v0, cd_v0] at H1
        exact br_t rfl ⟨b1, H1 rfl⟩
      · subst z
        rw [cd_v1, cd_v1] at H1 H0
        refine br_f (by decide) (br_c (fun z => ⟨b1, H1 (by rw [z])⟩) (fun z => ⟨b0, H0 (fun q => z ?_)⟩))
        injection q with q
        injection q
      · exact absurd z e2
  · refine br_f e ⟨b0, H0 (fun q => e ?_)⟩
    rcases o1 with z | z | ⟨z, n, z2, z3⟩
    · rcases o2 with y | y | ⟨y, m, y2, y3⟩
      · rw [z, y]
      · rw [z, y, cd_v0, cd_v1] at q
        exact absurd q.symm (Option.some_ne_none _)
      · rw [z, y, y2, cd_v0, cd_v2 (cd_Rb hw hh m y3)] at q
        exact absurd q.symm cd_pn
    · rcases o2 with y | y | ⟨y, m, y2, y3⟩
      · rw [z, y, cd_v0, cd_v1] at q
        exact absurd q (Option.some_ne_none _)
      · rw [z, y]
      · rw [z, y, y2, cd_v1, cd_v2 (cd_Rb hw hh m y3)] at q
        unfold cd_p at q
        injection q with q
        cases q
    · rcases o2 with y | y | ⟨y, m, y2, y3⟩
      · rw [z, y, z2, cd_v0, cd_v2 (cd_Rb hw hh n z3)] at q
        exact absurd q cd_pn
      · rw [z, y, z2, cd_v1, cd_v2 (cd_Rb hw hh n z3)] at q
        unfold cd_p at q
        injection q with q
        cases q
      · rw [z, y]
end
end
section
/-! ===== reverse, setCdr, delete ===== -/
theorem cd_revL {post : Int32 → St1 → Prop} {r N lo p : Nat} {A D : Nat → Int32} {E F : Nat → Int64} {car reg : Nat → cd_V} (hr : r < 8) (hN : N ≤ 32) :
    ∀ (n : Nat) (l : List Nat) (i hi : Nat) (K nm : Nat → Nat) (hs : List Nat) (T C M : Nat → Int32) (g k t c x : Int32) (d : Nat → cd_V) (v : cd_V),
      cd_I lo hi p K hs T C M A D → cd_G K nm T C M A D car d reg → cd_ok (cd_R K) t c → (l = [] → t = 2) → (∀ j l', l = j :: l' → ∃ a, x = nI a ∧ cd_R K a ∧ nm a = j) → cd_ch d l v none → l.Nodup → i + l.length = N → hi + 2 * l.length ≤ lo + 160 → l.length < n →
      (∀ (hi' : Nat) (K' nm' : Nat → Nat) (hs' : List Nat) (T' C' M' A' D' : Nat → Int32) (g' k' : Int32), cd_I lo hi' p K' hs' T' C' M' A' D' → cd_G K' nm' T' C' M' A' D' car (cd_rv l d (cd_v nm t c)) (cd_uv reg r (cd_lv l (cd_v nm t c))) → post (nI N) (nI lo, nI hi', nI p, g', k', T', C', M', A', D', E, F)) →
      wX_reverse_46 post (nI r) (nI N) n t c x (nI i) (nI lo) (nI hi) (nI p) g k T C M A D E F := by
  intro n
  induction n with
  | zero =>
    intro l i hi K nm hs T C M g k t c x d v h hG hok h2 hx hc hnd hi2 hsp hn
    omega
  | succ n ih =>
    intro l i hi K nm hs T C M g k t c x d v h hG hok h2 hx hc hnd hi2 hsp hn H
    match l, h2, hx, hc, hnd, hi2, hsp, hn, H with
    | [], h2, hx, hc, hnd, hi2, hsp, hn, H =>
      rw [List.length_nil] at hi2
      have t2 := h2 rfl
      subst t2
      refine pk_le N i (fun z => cd_setReg hr ?_) (fun z => absurd z (by omega))
      exact H hi K nm hs T C M _ _ g k (cd_sr h hok) (cd_srG hG)
    | j :: l', h2, hx, hc, hnd, hi2, hsp, hn, H =>
      rw [List.length_cons] at hi2 hsp hn
      obtain ⟨a, a1, a2, a3⟩ := hx j l' rfl
      subst a1
      have hnd' := List.nodup_cons.mp hnd
      obtain ⟨i1, i2, i3, hw, i5, i6, i7, i8⟩ := id h
      have hh : hi ≤ 320 := by omega
      refine pk_le N i (fun z => absurd z (by omega)) (fun z => cd_nxt hw hh hG.1 a2 (fun g' k' b1 b2 => ?_))
      refine cd_chg h hG.1 a2 hok (fun _ => by omega) (fun hi' K' nm' hs' T' C' M' c1 c2 c3 c4 => nm_r (nI_1 i) ?_)
      rw [a3] at c2 b2
      have hRb := cd_Rb hw hh
      have hG' : cd_G K' nm' T' C' M' A D car (cd_uv d j (cd_v nm t c)) reg := ⟨c2, fun q hq => by
        rw [cd_vc (i5 q hq) (fun n hn => ⟨hRb n hn, (c3 n hn).2⟩)]
        exact hG.2 q hq⟩
      have ev : cd_v nm' 2 (nI a) = cd_p j := by rw [cd_v2 (hRb a a2), (c3 a a2).2, a3]
      refine ih l' (i + 1) hi' K' nm' hs' T' C' M' _ _ 2 (nI a) k' _ (d j) c1 hG' (Or.inr (Or.inr ⟨rfl, a, rfl, (c3 a a2).1⟩)) (fun _ => rfl) (fun m l2 e => ?_) (cd_chu l' _ hc.2 hnd'.1) hnd'.2 (by omega) (by omega) (by omega) (fun hi2 K2 nm2 hs2 T2 C2 M2 A2 D2 g2 k2 e1 e2 => ?_)
      · have hc2 := hc.2
        rw [e] at hc2
        obtain ⟨_, w, w1, w2, w3⟩ := cd_vp b1 hRb (b2.trans hc2.1)
        exact ⟨w, w1, (c3 w w2).1, (c3 w w2).2.trans w3⟩
      · rw [ev] at e2
        exact H hi2 K2 nm2 hs2 T2 C2 M2 A2 D2 g2 k2 e1 e2
section
variable {lo hi p : Nat} {K nm : Nat → Nat} {hs : List Nat} {T C M A D : Nat → Int32} {E F : Nat → Int64} {g k : Int32} {car cdr reg : Nat → cd_V}
theorem cd_reverse {post : Int32 → St1 → Prop} {r : Nat} (h : cd_I lo hi p K hs T C M A D) (hG : cd_G K nm T C M A D car cdr reg) (hr : r < 8)
    (H1 : ∀ (l : List Nat) (lo' hi' p' : Nat) (K' nm' : Nat → Nat) (hs' : List Nat) (T' C' M' A' D' : Nat → Int32) (g' k' : Int32), cd_ch cdr l (reg r) none → l.length ≤ 32 → cd_I lo' hi' p' K' hs' T' C' M' A' D' → cd_G K' nm' T' C' M' A' D' car (cd_rv l cdr none) (cd_uv reg r (cd_lv l none)) → post (nI l.length) (nI lo', nI hi', nI p', g', k', T', C', M', A', D', E, F))
    (H2 : ∀ g' k', (∀ l, cd_ch cdr l (reg r) none → l.length ≤ 32 → False) → post (-3) (nI lo, nI hi, nI p, g', k', T, C, M, A, D, E, F)) :
    wpX_reverse post (nI lo, nI hi, nI p, g, k, T, C, M, A, D, E, F) (nI r) := by
  have er : (nI r).toNatClampNeg = r := nI_clamp (by omega)
  unfold wpX_reverse
  refine cd_bad hr (br_t rfl (cd_proper h hG hr (fun l g' k' a1 a2 => ?_) (fun g' k' a1 => br_f (by decide) (H2 g' k' a1))))
  refine pk_le 1 l.length (fun z => ?_) (fun z => ?_) rfl rfl (by omega) (by omega)
  · have e2 : (2 : Int32) * nI l.length = nI (2 * l.length) := pk_mul 2 l.length
    rw [e2]
    refine cd_need h hG (by omega) (fun lo' hi' p' K' nm' hs' T' C' M' D' g2 k2 b1 b2 b3 b4 => ?_)
    refine ⟨pk_in r 8 hr, nm_r (e' := D' r) (by rw [er]) ⟨l.length + 1, ?_⟩⟩
    have hw := b1.2.2.2.1
    have hh : hi' ≤ 320 := by have h1 := b1.1; have h3 := b1.2.2.1; omega
    refine cd_revL (reg := reg) hr a2 (l.length + 1) l 0 hi' K' nm' hs' T' C' M' g2 k2 0 0 (D' r) cdr (reg r) b1 b2 (Or.inl rfl) (fun e => ?_) (fun j l' e => ?_) a1 (cd_chn cd_np0 l _ a1) (by omega) b3 (by omega) (fun hi2 K2 nm2 hs2 T2 C2 M2 A2 D2 g3 k3 c1 c2 => ?_)
    · rw [e, List.length_nil] at z
      omega
    · rw [e] at a1
      obtain ⟨_, w, w1, w2, w3⟩ := cd_vp (b1.2.2.2.2.1 r hr) (cd_Rb hw hh) ((b2.2 r hr).trans a1.1)
      exact ⟨w, w1, w2, w3⟩
    · rw [cd_v0] at c2
      exact H1 l lo' hi2 p' K2 nm2 hs2 T2 C2 M2 A2 D2 g3 k3 a1 a2 c1 c2
  · have e : l = [] := List.eq_nil_of_length_eq_zero (by omega)
    subst e
    have e2 : cd_uv reg r none = reg := by
      have : reg r = none := a1
      funext q
      by_cases e : q = r
      · rw [e, cd_uvs, this]
      · rw [cd_uvd e]
    refine H1 [] lo hi p K nm hs T C M A D g' k' a1 a2 h ?_
    show cd_G K nm T C M A D car cdr (cd_uv reg r none)
    rw [e2]
    exact hG
theorem cd_setCdr {post : Int32 → St1 → Prop} {r s : Nat} (h : cd_I lo hi p K hs T C M A D) (hr : r < 8) (hs8 : s < 8) (H : ∀ x u, cd_J u → post x u) : wpX_setCdr post (nI lo, nI hi, nI p, g, k, T, C, M, A, D, E, F) (nI r) (nI s) := by
  have er : (nI r).toNatClampNeg = r := nI_clamp (by omega)
  have es : (nI s).toNatClampNeg = s := nI_clamp (by omega)
  obtain ⟨nm, car, cdr, reg, hG⟩ := cd_can h
  unfold wpX_setCdr
  refine cd_bad hr (br_t rfl (cd_bad hs8 (br_t rfl ⟨pk_in r 8 hr, ?_⟩)))
  rw [er, es]
  by_cases e : A r = 2
  · refine br_t e (cd_need (n := 2) h hG (by omega) (fun lo' hi' p' K' nm' hs' T' C' M' D' g2 k2 b1 b2 b3 b4 => ?_))
    refine ⟨pk_in r 8 hr, pk_in s 8 hs8, pk_in s 8 hs8, ?_⟩
    obtain ⟨w, w1, w2⟩ := cd_ok2 (b1.2.2.2.2.1 r hr) e
    rw [w1]
    exact cd_chg b1 b2.1 w2 (b1.2.2.2.2.1 s hs8) (fun _ => b3) (fun hi2 K2 nm2 hs2 T2 C2 M2 c1 c2 c3 c4 => H _ _ (cd_Ji c1))
  · exact br_f e (H _ _ (cd_Ji h))
end
theorem cd_delL {post : Int32 → St1 → Prop} {r N lo p : Nat} {E F : Nat → Int64} {car : Nat → cd_V} {x2 : Int32} (hr : r < 8) (hN : N ≤ 32) (H : ∀ x u, cd_J u → post x u) :
    ∀ (n : Nat) (l : List Nat) (i hi : Nat) (K nm : Nat → Nat) (hs : List Nat) (T C M A D : Nat → Int32) (g k x4 x5 x6 x7 : Int32) (d : Nat → cd_V) (v : cd_V),
      cd_I lo hi p K hs T C M A D → cd_A K nm T C M car d → (x5 = -1 ∨ ∃ a, x5 = nI a ∧ cd_R K a ∧ nm a ∉ l) → (∀ j l', l = j :: l' → ∃ a, x7 = nI a ∧ cd_R K a ∧ nm a = j) → cd_ch d l v none → l.Nodup → i + l.length = N → hi + 2 * l.length ≤ lo + 160 → l.length < n →
      wX_delete_57 post (nI r) x2 (nI N) n x4 x5 x6 x7 (nI i) (nI lo) (nI hi) (nI p) g k T C M A D E F := by
  intro n
  induction n with
  | zero =>
    intro l i hi K nm hs T C M A D g k x4 x5 x6 x7 d v h hA h5 hx hc hnd hi2 hsp hn
    omega
  | succ n ih =>
    intro l i hi K nm hs T C M A D g k x4 x5 x6 x7 d v h hA h5 hx hc hnd hi2 hsp hn
    obtain ⟨i1, i2, i3, hw, i5, i6, i7, i8⟩ := id h
    have hh : hi ≤ 320 := by omega
    have hRb := cd_Rb hw hh
    match l, h5, hx, hc, hnd, hi2, hsp, hn with
    | [], h5, hx, hc, hnd, hi2, hsp, hn =>
      rw [List.length_nil] at hi2
      refine pk_le N i (fun z => br_c (fun _ => H _ _ (cd_Ji h)) (fun _ => ?_)) (fun z => absurd z (by omega))
      rcases h5 with e | ⟨a, e, a1, a2⟩
      · subst e
        exact br_t (by decide) (H _ _ (cd_Ji h))
      · subst e
        exact br_f (nI_pos (hRb a a1)) (cd_chg h hA a1 (Or.inl rfl) (fun z => absurd rfl z) (fun hi2 K2 nm2 hs2 T2 C2 M2 c1 c2 c3 c4 => H _ _ (cd_Ji c1)))
    | j :: l', h5, hx, hc, hnd, hi2, hsp, hn =>
      rw [List.length_cons] at hi2 hsp hn
      obtain ⟨a, a1, a2, a3⟩ := hx j l' rfl
      subst a1
      have hnd' := List.nodup_cons.mp hnd
      refine pk_le N i (fun z => absurd z (by omega)) (fun z => cd_nxt hw hh hA a2 (fun g' k' b1 b2 => cd_fst hw hh a2 (fun g2 k2 b3 => ?_)))
      rw [a3] at b2
      have hnext : ∀ (K' nm' : Nat → Nat), (∀ n, cd_R K n → cd_R K' n ∧ nm' n = nm n) → ∀ m l2, l' = m :: l2 → ∃ a, k' = nI a ∧ cd_R K' a ∧ nm' a = m := fun K' nm' hm m l2 e => by
        have hc2 := hc.2
        rw [e] at hc2
        obtain ⟨_, w, w1, w2, w3⟩ := cd_vp b1 hRb (b2.trans hc2.1)
        exact ⟨w, w1, (hm w w2).1, (hm w w2).2.trans w3⟩
      have key : wX_delete_106 post (wX_delete_57 post (nI r) x2 (nI N) n) (nI r) x2 (nI N) x4 x5 x6 (nI a) (nI i) k' (nI lo) (nI hi) (nI p) g2 k2 T C M A D E F := by
        unfold wX_delete_106 wpX_join
        rcases h5 with e | ⟨q, e, q1, q2⟩
        · subst e
          refine br_f (by decide) (cd_setReg hr (nm_r (nI_1 i) ?_))
          exact ih l' (i + 1) hi K nm hs T C M _ _ g2 k2 x4 (nI a) 0 k' d (d j) (cd_sr h (Or.inr (Or.inr ⟨rfl, a, rfl, a2⟩))) hA (Or.inr ⟨a, rfl, a2, by rw [a3]; exact hnd'.1⟩) (hnext K nm (fun n hn => ⟨hn, rfl⟩)) hc.2 hnd'.2 (by omega) (by omega) (by omega)
        · subst e
          refine br_t (nI_pos' (hRb q q1)) (br_c (fun _ => nm_r (nI_1 i) ?_) (fun _ => ?_))
          · exact ih l' (i + 1) hi K nm hs T C M A D g2 k2 x4 (nI a) 0 k' d (d j) h hA (Or.inr ⟨a, rfl, a2, by rw [a3]; exact hnd'.1⟩) (hnext K nm (fun n hn => ⟨hn, rfl⟩)) hc.2 hnd'.2 (by omega) (by omega) (by omega)
          · refine cd_chg h hA q1 (Or.inr (Or.inr ⟨rfl, a, rfl, a2⟩)) (fun _ => by omega) (fun hi' K' nm' hs' T' C' M' c1 c2 c3 c4 => nm_r (nI_1 i) ?_)
            exact ih l' (i + 1) hi' K' nm' hs' T' C' M' A D g2 k2 x4 (nI a) 0 k' _ (d j) c1 c2 (Or.inr ⟨a, rfl, (c3 a a2).1, by rw [(c3 a a2).2, a3]; exact hnd'.1⟩) (hnext K' nm' c3) (cd_chu l' _ hc.2 (fun z => q2 (List.mem_cons_of_mem _ z))) hnd'.2 (by omega) (by omega) (by omega)
      refine br_c (fun _ => br_c (fun _ => nm_e (nm_r (nI_1 i) ?_)) (fun _ => key)) (fun _ => key)
      refine ih l' (i + 1) hi K nm hs T C M A D g2 k2 _ x5 1 k' d (d j) h hA ?_ (hnext K nm (fun n hn => ⟨hn, rfl⟩)) hc.2 hnd'.2 (by omega) (by omega) (by omega)
      rcases h5 with e | ⟨q, e, q1, q2⟩
      · exact Or.inl e
      · exact Or.inr ⟨q, e, q1, fun z => q2 (List.mem_cons_of_mem _ z)⟩
theorem cd_delete {post : Int32 → St1 → Prop} {lo hi p : Nat} {K : Nat → Nat} {hs : List Nat} {T C M A D : Nat → Int32} {E F : Nat → Int64} {g k x2 : Int32} {r : Nat} (h : cd_I lo hi p K hs T C M A D) (hr : r < 8) (H : ∀ x u, cd_J u → post x u) : wpX_delete post (nI lo, nI hi, nI p, g, k, T, C, M, A, D, E, F) (nI r) x2 := by
  have er : (nI r).toNatClampNeg = r := nI_clamp (by omega)
  obtain ⟨nm, car, cdr, reg, hG⟩ := cd_can h
  unfold wpX_delete
  refine cd_bad hr (br_t rfl (cd_proper h hG hr (fun l g' k' a1 a2 => ?_) (fun g' k' a1 => br_f (by decide) (H _ _ (cd_Ji h)))))
  refine pk_le 1 l.length (fun z => ?_) (fun z => H _ _ (cd_Ji h)) rfl rfl (by omega) (by omega)
  have e2 : (2 : Int32) * nI l.length = nI (2 * l.length) := pk_mul 2 l.length
  rw [e2]
  refine cd_need h hG (by omega) (fun lo' hi' p' K' nm' hs' T' C' M' D' g2 k2 b1 b2 b3 b4 => ?_)
  refine ⟨pk_in r 8 hr, nm_r (e' := D' r) (by rw [er]) (cd_setReg hr ⟨l.length + 1, ?_⟩)⟩
  have hw := b1.2.2.2.1
  have hh : hi' ≤ 320 := by have h1 := b1.1; have h3 := b1.2.2.1; omega
  refine cd_delL hr a2 H (l.length + 1) l 0 hi' K' nm' hs' T' C' M' _ _ g2 k2 0 (-1) 0 (D' r) cdr (reg r) (cd_sr b1 (Or.inl rfl)) b2.1 (Or.inl rfl) (fun j l' e => ?_) a1 (cd_chn cd_np0 l _ a1) (by omega) b3 (by omega)
  rw [e] at a1
  obtain ⟨_, w, w1, w2, w3⟩ := cd_vp (b1.2.2.2.2.1 r hr) (cd_Rb hw hh) ((b2.2 r hr).trans a1.1)
  exact ⟨w, w1, w2, w3⟩
end
section
/-! ===== making cells; the other operations ===== -/
theorem cd_alloc {lo m p n w : Nat} {K : Nat → Nat} {hs : List Nat} {T C M A D T' C' M' : Nat → Int32} (h : cd_I lo m p K hs T C M A D) (hn : 1 ≤ n) (hw1 : w ≤ 1) (hf : m + n + w ≤ lo + 160) (hp : p + n ≤ 32)
    (t1 : ∀ a, a < m → T' a = T a ∧ C' a = C a ∧ M' a = M a) (t2 : ∀ a, m ≤ a → a < m + n + w → cd_ok (cd_R K) (T' a) (C' a))
    (t3 : ∀ a, m ≤ a → a + 1 < m + n → M' a = 1) (t4 : (w = 0 ∧ M' (m + n - 1) = 2) ∨ (w = 1 ∧ M' (m + n - 1) = 0)) :
    ∃ (K' : Nat → Nat) (hs' : List Nat), cd_I lo (m + n + w) (p + n) K' hs' T' C' M' A D ∧ K' m = 1 := by
  obtain ⟨i1, i2, i3, ⟨w1, w2, w3, w4⟩, i5, i6, i7, i8⟩ := h
  obtain ⟨K', hK'⟩ : ∃ K' : Nat → Nat, K' = fun a => if a < m then K a else if a < m + n then 1 else if a < m + n + w then 3 else 0 := ⟨_, rfl⟩
  have ka : ∀ a, a < m → K' a = K a := fun a ha => by rw [hK']; exact if_pos ha
  have kb : ∀ a, m ≤ a → a < m + n → K' a = 1 := fun a h1 h2 => by
    rw [hK']
    show (if a < m then K a else if a < m + n then 1 else if a < m + n + w then 3 else 0) = 1
    rw [if_neg (by omega), if_pos h2]
  have kc : ∀ a, m + n ≤ a → a < m + n + w → K' a = 3 := fun a h1 h2 => by
    rw [hK']
    show (if a < m then K a else if a < m + n then 1 else if a < m + n + w then 3 else 0) = 3
    rw [if_neg (by omega), if_neg (by omega), if_pos h2]
  have kd : ∀ a, m + n + w ≤ a → K' a = 0 := fun a h1 => by
    rw [hK']
    show (if a < m then K a else if a < m + n then 1 else if a < m + n + w then 3 else 0) = 0
    rw [if_neg (by omega), if_neg (by omega), if_neg (by omega)]
  have lt : ∀ a, K a ≠ 0 → a < m := fun a ha => (w1 a ha).2.1
  have hR : ∀ a, cd_R K a → cd_R K' a := fun a ha => by
    unfold cd_R
    rw [ka a (lt a (by unfold cd_R at ha; omega))]
    exact ha
  have zone : ∀ a, K' a ≠ 0 → a < m ∨ (m ≤ a ∧ a < m + n) ∨ (m + n ≤ a ∧ a < m + n + w) := fun a ha => by
    by_cases e : m + n + w ≤ a
    · exact absurd (kd a e) ha
    · omega
  refine ⟨K', (List.range n).map (fun i => m + i) ++ hs, ⟨i1, by omega, hf, ⟨fun a ha => ?_, fun a ha => ?_, fun a ha => ?_, fun a ha => ?_⟩, fun r hr => cd_okm (i5 r hr) hR, fun a ha => ?_, ?_, hp⟩, kb m (by omega) (by omega)⟩
  · rcases zone a ha with z | z | z
    · rw [ka a z] at ha ⊢
      have := w1 a ha
      omega
    · rw [kb a z.1 z.2]
      omega
    · rw [kc a z.1 z.2]
      omega
  · rcases zone a (by omega) with z | z | z
    · rw [ka a z] at ha
      obtain ⟨x1, x2, x3⟩ := w2 a ha
      obtain ⟨y1, y2, y3⟩ := t1 a z
      rw [y1, y2, y3]
      refine ⟨cd_okm x1 hR, fun q => ?_, fun q => hR _ (x3 q)⟩
      have := x2 q
      rw [ka _ (lt _ (by omega))]
      exact this
    · refine ⟨cd_okm (t2 a z.1 (by omega)) hR, fun q => ?_, fun q => ?_⟩
      · by_cases e : a + 1 < m + n
        · exact absurd ((t3 a z.1 e).symm.trans q) (by decide)
        · have e1 : m + n - 1 = a := by omega
          rw [e1] at t4
          rcases t4 with ⟨_, t4⟩ | ⟨t5, t4⟩
          · exact absurd (t4.symm.trans q) (by decide)
          · exact kc _ (by omega) (by omega)
      · by_cases e : a + 1 < m + n
        · exact Or.inl (kb _ (by omega) e)
        · have e1 : m + n - 1 = a := by omega
          rw [e1] at t4
          rcases t4 with ⟨_, t4⟩ | ⟨t5, t4⟩
          · exact absurd (t4.symm.trans q) (by decide)
          · exact absurd (t4.symm.trans q) (by decide)
    · rw [kc a z.1 z.2] at ha
      omega
  · rcases zone a (by omega) with z | z | z
    · rw [ka a z] at ha
      obtain ⟨x1, q, x2, x3, x4⟩ := w3 a ha
      obtain ⟨y1, y2, y3⟩ := t1 a z
      have hq := lt q (by omega)
      exact ⟨by rw [y1]; exact x1, q, by rw [y2]; exact x2, by rw [ka q hq]; exact x3, by rw [(t1 q hq).2.2]; exact x4⟩
    · rw [kb a z.1 z.2] at ha
      omega
    · rw [kc a z.1 z.2] at ha
      omega
  · rcases zone a (by omega) with z | z | z
    · rw [ka a z] at ha
      obtain ⟨y1, y2, y3⟩ := t1 a z
      rw [y1, y2]
      exact cd_okm (w4 a ha) hR
    · rw [kb a z.1 z.2] at ha
      omega
    · exact cd_okm (t2 a (by omega) z.2) hR
  · rcases zone a (by omega) with z | z | z
    · rw [ka a z] at ha
      exact List.mem_append.mpr (Or.inr (i6 a ha))
    · exact List.mem_append.mpr (Or.inl (List.mem_map.mpr ⟨a - m, List.mem_range.mpr (by omega), by omega⟩))
    · rw [kc a z.1 z.2] at ha
      omega
  · rw [List.length_append, List.length_map, List.length_range]
    omega
/-- only what lies below hi counts -/
theorem cd_agr {lo m p : Nat} {K : Nat → Nat} {hs : List Nat} {T C M A D T' C' M' : Nat → Int32} (h : cd_I lo m p K hs T C M A D) (t1 : ∀ a, a < m → T' a = T a ∧ C' a = C a ∧ M' a = M a) : cd_I lo m p K hs T' C' M' A D := by
  obtain ⟨i1, i2, i3, ⟨w1, w2, w3, w4⟩, i5, i6, i7, i8⟩ := h
  have lt : ∀ a, K a ≠ 0 → a < m := fun a ha => (w1 a ha).2.1
  refine ⟨i1, i2, i3, ⟨w1, fun a ha => ?_, fun a ha => ?_, fun a ha => ?_⟩, i5, i6, i7, i8⟩
  · obtain ⟨y1, y2, y3⟩ := t1 a (lt a (by omega))
    rw [y1, y2, y3]
    exact w2 a ha
  · obtain ⟨y1, y2, y3⟩ := t1 a (lt a (by omega))
    obtain ⟨x1, q, x2, x3, x4⟩ := w3 a ha
    exact ⟨by rw [y1]; exact x1, q, by rw [y2]; exact x2, x3, by rw [(t1 q (lt q (by omega))).2.2]; exact x4⟩
  · obtain ⟨y1, y2, y3⟩ := t1 a (lt a (by omega))
    rw [y1, y2]
    exact w4 a ha
theorem cd_agrA {lo m p : Nat} {K nm : Nat → Nat} {hs : List Nat} {T C M A D T' C' M' : Nat → Int32} {car cdr : Nat → cd_V} (h : cd_I lo m p K hs T C M A D) (hA : cd_A K nm T C M car cdr) (t1 : ∀ a, a < m → T' a = T a ∧ C' a = C a ∧ M' a = M a) : cd_A K nm T' C' M' car cdr := by
  obtain ⟨i1, i2, i3, ⟨w1, w2, w3, w4⟩, i5, i6, i7, i8⟩ := h
  obtain ⟨a1, a2, a3⟩ := hA
  have lt : ∀ a, K a ≠ 0 → a < m := fun a ha => (w1 a ha).2.1
  refine ⟨fun a ha => ?_, fun a n ha => ?_, a3⟩
  · obtain ⟨y1, y2, y3⟩ := t1 a (lt a (by omega))
    have hz := lt a (by omega)
    rw [y1, y2, ← (a1 a ha).2]
    refine ⟨(a1 a ha).1, cd_dcg (by omega) y3 (fun z => ?_) (fun _ => rfl)⟩
    have k3 := (w2 a ha).2.1 z
    obtain ⟨u1, u2, u3⟩ := t1 (a + 1) (lt _ (by omega))
    rw [u1, u2]
  · rw [(t1 a (lt a (by omega))).2.1]
    exact a2 a n ha
section
variable {lo hi p : Nat} {K : Nat → Nat} {hs : List Nat} {T C M A D : Nat → Int32} {E F : Nat → Int64} {g k : Int32} {post : Int32 → St1 → Prop} {r s q : Nat}
theorem cd_nil (h : cd_I lo hi p K hs T C M A D) (hr : r < 8) (H : ∀ x u, cd_J u → post x u) : wpX_nil post (nI lo, nI hi, nI p, g, k, T, C, M, A, D, E, F) (nI r) := by
  unfold wpX_nil
  exact cd_bad hr (br_t rfl (cd_setReg hr (H _ _ (cd_Ji (cd_sr h (Or.inl rfl))))))
theorem cd_number {x : Int32} (h : cd_I lo hi p K hs T C M A D) (hr : r < 8) (H : ∀ x u, cd_J u → post x u) : wpX_number post (nI lo, nI hi, nI p, g, k, T, C, M, A, D, E, F) (nI r) x := by
  unfold wpX_number
  exact cd_bad hr (br_t rfl (cd_setReg hr (H _ _ (cd_Ji (cd_sr h (Or.inr (Or.inl rfl)))))))
theorem cd_copyJ (h : cd_I lo hi p K hs T C M A D) (hr : r < 8) (hs8 : s < 8) (H : ∀ x u, cd_J u → post x u) : wpX_copy post (nI lo, nI hi, nI p, g, k, T, C, M, A, D, E, F) (nI r) (nI s) :=
  cd_copy h hr hs8 (H _ _ (cd_Ji (cd_sr h (h.2.2.2.2.1 s hs8))))
theorem cd_hh (h : cd_I lo hi p K hs T C M A D) : hi ≤ 320 := by
  have h1 := h.1
  have h3 := h.2.2.1
  omega
theorem cd_car (h : cd_I lo hi p K hs T C M A D) (hr : r < 8) (hs8 : s < 8) (H : ∀ x u, cd_J u → post x u) : wpX_car post (nI lo, nI hi, nI p, g, k, T, C, M, A, D, E, F) (nI r) (nI s) := by
  have es : (nI s).toNatClampNeg = s := nI_clamp (by omega)
  unfold wpX_car
  refine cd_bad hr (br_t rfl (cd_bad hs8 (br_t rfl ⟨pk_in s 8 hs8, ?_⟩)))
  rw [es]
  by_cases e : A s = 2
  · obtain ⟨w, w1, w2⟩ := cd_ok2 (h.2.2.2.2.1 s hs8) e
    refine br_t e ⟨pk_in s 8 hs8, ?_⟩
    rw [w1]
    exact cd_fst h.2.2.2.1 (cd_hh h) w2 (fun g' k' b1 => cd_setReg hr (H _ _ (cd_Ji (cd_sr h b1))))
  · exact br_f e (H _ _ (cd_Ji h))
theorem cd_cdr (h : cd_I lo hi p K hs T C M A D) (hr : r < 8) (hs8 : s < 8) (H : ∀ x u, cd_J u → post x u) : wpX_cdr post (nI lo, nI hi, nI p, g, k, T, C, M, A, D, E, F) (nI r) (nI s) := by
  have es : (nI s).toNatClampNeg = s := nI_clamp (by omega)
  obtain ⟨nm, car, cdr, reg, hG⟩ := cd_can h
  unfold wpX_cdr
  refine cd_bad hr (br_t rfl (cd_bad hs8 (br_t rfl ⟨pk_in s 8 hs8, ?_⟩)))
  rw [es]
  by_cases e : A s = 2
  · obtain ⟨w, w1, w2⟩ := cd_ok2 (h.2.2.2.2.1 s hs8) e
    refine br_t e ⟨pk_in s 8 hs8, ?_⟩
    rw [w1]
    exact cd_nxt h.2.2.2.1 (cd_hh h) hG.1 w2 (fun g' k' b1 _ => cd_setReg hr (H _ _ (cd_Ji (cd_sr h b1))))
  · exact br_f e (H _ _ (cd_Ji h))
theorem cd_setCar (h : cd_I lo hi p K hs T C M A D) (hr : r < 8) (hs8 : s < 8) (H : ∀ x u, cd_J u → post x u) : wpX_setCar post (nI lo, nI hi, nI p, g, k, T, C, M, A, D, E, F) (nI r) (nI s) := by
  have er : (nI r).toNatClampNeg = r := nI_clamp (by omega)
  have es : (nI s).toNatClampNeg = s := nI_clamp (by omega)
  unfold wpX_setCar
  refine cd_bad hr (br_t rfl (cd_bad hs8 (br_t rfl ⟨pk_in r 8 hr, ?_⟩)))
  rw [er, es]
  by_cases e : A r = 2
  · obtain ⟨w, w1, w2⟩ := cd_ok2 (h.2.2.2.2.1 r hr) e
    refine br_t e ⟨pk_in r 8 hr, ?_⟩
    rw [w1]
    obtain ⟨x, x1, x2, x3, x4, x5⟩ := cd_loc h.2.2.2.1 (cd_hh h) w2
    have hv := h.2.2.2.2.1 s hs8
    refine cd_settle x2 ⟨pk_in s 8 hs8, pk_in s 8 hs8, cd_put_3 x2.2.1 (H _ _ (cd_Ji (K := K) (hs := hs) ?_))⟩
    obtain ⟨i1, i2, i3, ⟨w1, w2, w3, w4⟩, i5, i6, i7, i8⟩ := h
    have ne : ∀ a, K a ≠ 1 → a ≠ x := fun a ha z => ha (by rw [z]; exact x1)
    refine ⟨i1, i2, i3, ⟨w1, fun a ha => ?_, fun a ha => ?_, fun a ha => ?_⟩, i5, i6, i7, i8⟩
    · by_cases e : a = x
      · rw [e, pk_us, pk_us]
        exact ⟨hv, (w2 x x1).2⟩
      · rw [pk_un e, pk_un e]
        exact w2 a ha
    · rw [pk_un (ne a (by omega)), pk_un (ne a (by omega))]
      exact w3 a ha
    · rw [pk_un (ne a (by omega)), pk_un (ne a (by omega))]
      exact w4 a ha
  · exact br_f e (H _ _ (cd_Ji h))
theorem cd_walkL {N : Nat} {x3 : Int32} (h : cd_I lo hi p K hs T C M A D) (hr : r < 8) (hN : N ≤ 16) (H : ∀ x u, cd_J u → post x u) :
    ∀ (n i : Nat) (t c g k : Int32), cd_ok (cd_R K) t c → i ≤ N → N < n + i → wX_walk_49 post (nI r) x3 (nI N) n t c (nI i) (nI lo) (nI hi) (nI p) g k T C M A D E F := by
  obtain ⟨nm, car, cdr, reg, hG⟩ := cd_can h
  intro n
  induction n with
  | zero =>
    intro i t c g k hok h1 h2
    omega
  | succ n ih =>
    intro i t c g k hok h1 h2
    refine pk_le N i (fun z => cd_setReg hr (H _ _ (cd_Ji (cd_sr h hok)))) (fun z => ?_)
    by_cases e : t = 2
    · obtain ⟨w, w1, w2⟩ := cd_ok2 hok e
      refine br_t e ?_
      rw [w1]
      refine br_c (fun _ => ?_) (fun _ => ?_)
      · exact cd_nxt h.2.2.2.1 (cd_hh h) hG.1 w2 (fun g' k' b1 _ => nm_r (nI_1 i) (ih (i + 1) g' k' g' k' b1 (by omega) (by omega)))
      · exact cd_fst h.2.2.2.1 (cd_hh h) w2 (fun g' k' b1 => nm_r (nI_1 i) (ih (i + 1) g' k' g' k' b1 (by omega) (by omega)))
    · exact br_f e (H _ _ (cd_Ji h))
theorem cd_walk {N : Nat} {x3 : Int32} (h : cd_I lo hi p K hs T C M A D) (hr : r < 8) (hs8 : s < 8) (hN : N ≤ 16) (H : ∀ x u, cd_J u → post x u) : wpX_walk post (nI lo, nI hi, nI p, g, k, T, C, M, A, D, E, F) (nI r) (nI s) x3 (nI N) := by
  have es : (nI s).toNatClampNeg = s := nI_clamp (by omega)
  unfold wpX_walk
  refine cd_bad hr (br_t rfl (cd_bad hs8 (br_t rfl (br_f (nI_pos (by omega)) (pk_le N 16 (fun _ => ?_) (fun z => absurd z (by omega)))))))
  exact ⟨pk_in s 8 hs8, nm_r (e' := A s) (by rw [es]) ⟨pk_in s 8 hs8, nm_r (e' := D s) (by rw [es]) ⟨N + 1, cd_walkL h hr hN H (N + 1) 0 _ _ _ _ (h.2.2.2.2.1 s hs8) (by omega) (by omega)⟩⟩⟩
theorem cd_cons (h : cd_I lo hi p K hs T C M A D) (hr : r < 8) (hs8 : s < 8) (hq : q < 8) (H : ∀ x u, cd_J u → post x u) : wpX_cons post (nI lo, nI hi, nI p, g, k, T, C, M, A, D, E, F) (nI r) (nI s) (nI q) := by
  have es : (nI s).toNatClampNeg = s := nI_clamp (by omega)
  have eq : (nI q).toNatClampNeg = q := nI_clamp (by omega)
  obtain ⟨nm, car, cdr, reg, hG⟩ := cd_can h
  unfold wpX_cons
  refine cd_bad hr (br_t rfl (cd_bad hs8 (br_t rfl (cd_bad hq (br_t rfl ?_)))))
  rw [es, eq]
  refine cd_mm (n := 1) h hG (by omega) (fun u hu => ?_) (fun lo1 hi1 p1 K1 nm1 hs1 T1 C1 M1 D1 g1 k1 a1 a2 a3 => ?_)
  · obtain ⟨b, f, p, g, k, T, C, M, A, D, E, F⟩ := u
    exact br_t rfl (H _ _ hu)
  refine br_f (by decide) (cd_need (n := 2) a1 a2 (by omega) (fun lo2 m p2 K2 nm2 hs2 T2 C2 M2 D2 g2 k2 b1 b2 b3 b4 => ?_))
  have hh := cd_hh b1
  have hb1 := b1.1
  have hb3 := b1.2.2.1
  have hm : m < 320 := by omega
  refine ⟨pk_in s 8 hs8, pk_in s 8 hs8, cd_put_3 hm (nm_r (nI_1 m) ⟨pk_in q 8 hq, ?_⟩)⟩
  have oks := b1.2.2.2.2.1 s hs8
  have okq := b1.2.2.2.2.1 q hq
  by_cases e : A q = 0
  · refine br_t e ⟨pk_in m 320 hm, nm_r (e' := upd M2 m 2) (by rw [nI_clamp (by omega)]) (nm_r (nI_1 p2) (cd_setReg hr (H _ _ ?_)))⟩
    obtain ⟨K3, hs3, c1, c2⟩ := cd_alloc (T' := upd T2 m (A s)) (C' := upd C2 m (D2 s)) (M' := upd M2 m 2) (n := 1) (w := 0) b1 (by omega) (by omega) (by omega) (by omega) (fun a ha => ⟨pk_un (by omega), pk_un (by omega), pk_un (by omega)⟩) (fun a h1 h2 => by
      rw [show a = m by omega, pk_us, pk_us]
      exact oks) (fun a h1 h2 => absurd h2 (by omega)) (Or.inl ⟨rfl, by rw [show m + 1 - 1 = m by omega, pk_us]⟩)
    exact cd_Ji (cd_sr c1 (Or.inr (Or.inr ⟨rfl, m, rfl, Or.inl c2⟩)))
  · refine br_f e ⟨pk_in m 320 hm, nm_r (e' := upd M2 m 0) (by rw [nI_clamp (by omega)]) ⟨pk_in q 8 hq, pk_in q 8 hq, cd_put_3 (show m + 1 < 320 by omega) (nm_r (nI_1 (m + 1)) (nm_r (nI_1 p2) (cd_setReg hr (H _ _ ?_))))⟩⟩
    obtain ⟨K3, hs3, c1, c2⟩ := cd_alloc (T' := upd (upd T2 m (A s)) (m + 1) (A q)) (C' := upd (upd C2 m (D2 s)) (m + 1) (D2 q)) (M' := upd M2 m 0) (n := 1) (w := 1) b1 (by omega) (by omega) (by omega) (by omega) (fun a ha => ⟨by rw [pk_un (by omega), pk_un (by omega)], by rw [pk_un (by omega), pk_un (by omega)], pk_un (by omega)⟩) (fun a h1 h2 => by
      by_cases ea : a = m
      · rw [ea, pk_un (show m ≠ m + 1 by omega), pk_un (show m ≠ m + 1 by omega), pk_us, pk_us]
        exact oks
      · rw [show a = m + 1 by omega, pk_us, pk_us]
        exact okq) (fun a h1 h2 => absurd h2 (by omega)) (Or.inr ⟨rfl, by rw [show m + 1 - 1 = m by omega, pk_us]⟩)
    exact cd_Ji (cd_sr c1 (Or.inr (Or.inr ⟨rfl, m, rfl, Or.inl c2⟩)))
theorem cd_listL {m N : Nat} (hr : r < 8) (hN : 1 ≤ N) (hs8 : s + N ≤ 8) (hf : hi + N ≤ lo + 160) (hp : p + N ≤ 32) (H : ∀ x u, cd_J u → post x u) :
    ∀ (n i : Nat) (g k : Int32) (T C M : Nat → Int32), cd_I lo hi p K hs T C M A D → i ≤ N → N < n + i → (∀ a, hi ≤ a → a < hi + i → cd_ok (cd_R K) (T a) (C a) ∧ (a + 1 < hi + N → M a = 1) ∧ (a + 1 = hi + N → M a = 2)) →
      wX_list_66 post (nI r) (nI s) (nI N) (nI hi) n (nI i) (nI lo) (nI hi) (nI p) g k T C M A D E F := by
  intro n
  induction n with
  | zero =>
    intro i g k T C M h h1 h2
    omega
  | succ n ih =>
    intro i g k T C M h h1 h2 hv
    have hb1 := h.1
    have hb3 := h.2.2.1
    refine pk_le N i (fun z => nm_r (nI_add hi N) (nm_r (nI_add p N) (cd_setReg hr (H _ _ ?_)))) (fun z => ?_)
    · have e : i = N := by omega
      subst e
      obtain ⟨K3, hs3, c1, c2⟩ := cd_alloc (T' := T) (C' := C) (M' := M) (n := i) (w := 0) h (by omega) (by omega) (by omega) (by omega) (fun a ha => ⟨rfl, rfl, rfl⟩) (fun a q1 q2 => (hv a q1 (by omega)).1) (fun a q1 q2 => (hv a q1 (by omega)).2.1 q2) (Or.inl ⟨rfl, (hv (hi + i - 1) (by omega) (by omega)).2.2 (by omega)⟩)
      exact cd_Ji (cd_sr c1 (Or.inr (Or.inr ⟨rfl, hi, rfl, Or.inl c2⟩)))
    · have e1 : nI s + nI i = nI (s + i) := nI_add s i
      have e2 : nI hi + nI i = nI (hi + i) := nI_add hi i
      have e3 : nI N - 1 = nI (N - 1) := pk_sub (b := 1) hN
      have e4 : (nI (s + i)).toNatClampNeg = s + i := nI_clamp (by omega)
      rw [e1, e2, e3, e4]
      have step : ∀ y : Int32, (i + 1 < N → y = 1) → (i + 1 = N → y = 2) → wX_list_66 post (nI r) (nI s) (nI N) (nI hi) n (nI (i + 1)) (nI lo) (nI hi) (nI p) g k (upd T (hi + i) (A (s + i))) (upd C (hi + i) (D (s + i))) (upd M (hi + i) y) A D E F := fun y y1 y2 => by
        refine ih (i + 1) g k _ _ _ (cd_agr h (fun a ha => ⟨pk_un (by omega), pk_un (by omega), pk_un (by omega)⟩)) (by omega) (by omega) (fun a q1 q2 => ?_)
        by_cases e : a = hi + i
        · rw [e, pk_us, pk_us, pk_us]
          exact ⟨h.2.2.2.2.1 (s + i) (by omega), fun z => y1 (by omega), fun z => y2 (by omega)⟩
        · rw [pk_un e, pk_un e, pk_un e]
          exact hv a q1 (by omega)
      have hin : vp_in (nI (hi + i)) 320 := pk_in (hi + i) 320 (by omega)
      have ecl : (nI (hi + i)).toNatClampNeg = hi + i := nI_clamp (by omega)
      refine ⟨pk_in (s + i) 8 (by omega), pk_in (s + i) 8 (by omega), cd_put_3 (show hi + i < 320 by omega) (pk_eq i (N - 1) (fun z2 => ⟨hin, nm_r (e' := upd M (hi + i) 2) (by rw [ecl]) (nm_r (nI_1 i) (step 2 (fun z3 => absurd z3 (by omega)) (fun _ => rfl)))⟩) (fun z2 => ⟨hin, nm_r (e' := upd M (hi + i) 1) (by rw [ecl]) (nm_r (nI_1 i) (step 1 (fun _ => rfl) (fun z3 => absurd z3 (by omega))))⟩))⟩
theorem cd_list {N : Nat} (h : cd_I lo hi p K hs T C M A D) (hr : r < 8) (hs8 : s < 8) (hN : 1 ≤ N) (hsN : s + N ≤ 8) (H : ∀ x u, cd_J u → post x u) : wpX_list post (nI lo, nI hi, nI p, g, k, T, C, M, A, D, E, F) (nI r) (nI s) (nI N) := by
  obtain ⟨nm, car, cdr, reg, hG⟩ := cd_can h
  unfold wpX_list
  refine cd_bad hr (br_t rfl (cd_bad hs8 (br_t rfl (pk_lt N 1 (fun z => absurd z (by omega)) (fun _ => pk_lt 8 N (fun z => absurd z (by omega)) (fun _ => pk_le (s + N) 8 (fun _ => ?_) (fun z => absurd z (by omega)) (nI_add s N)))))))
  refine cd_mm (n := N) h hG (by omega) (fun u hu => ?_) (fun lo1 hi1 p1 K1 nm1 hs1 T1 C1 M1 D1 g1 k1 a1 a2 a3 => ?_)
  · obtain ⟨b, f, p, g, k, T, C, M, A, D, E, F⟩ := u
    exact br_t rfl (H _ _ hu)
  refine br_f (by decide) (cd_need (n := N) a1 a2 (by omega) (fun lo2 m p2 K2 nm2 hs2 T2 C2 M2 D2 g2 k2 b1 b2 b3 b4 => ⟨N + 1, ?_⟩))
  exact cd_listL (m := 0) hr hN hsN b3 (by omega) H (N + 1) 0 g2 k2 T2 C2 M2 b1 (by omega) (by omega) (fun a q1 q2 => absurd q1 (by omega))
end
end
section
/-! ===== append, turn ===== -/
theorem cd_appL {post : Int32 → St1 → Prop} {lo m p r s N : Nat} {K nm : Nat → Nat} {hs : List Nat} {A D : Nat → Int32} {E F : Nat → Int64} {car cdr : Nat → cd_V} (hr : r < 8) (hs8 : s < 8) (hN : 1 ≤ N) (hf : m + N + 1 ≤ lo + 160) (hp : p + N ≤ 32) (H : ∀ x u, cd_J u → post x u) :
    ∀ (n : Nat) (l : List Nat) (i : Nat) (g k x : Int32) (T C M : Nat → Int32) (v : cd_V), cd_I lo m p K hs T C M A D → cd_A K nm T C M car cdr → (∀ j l', l = j :: l' → ∃ a, x = nI a ∧ cd_R K a ∧ nm a = j) → cd_ch cdr l v none → i + l.length = N → l.length < n →
      (∀ a, m ≤ a → a < m + i → cd_ok (cd_R K) (T a) (C a) ∧ M a = 1) →
      wX_append_106 post (nI r) (nI s) (nI N) (nI m) n x (nI i) (nI lo) (nI m) (nI p) g k T C M A D E F := by
  have es : (nI s).toNatClampNeg = s := nI_clamp (by omega)
  intro n
  induction n with
  | zero =>
    intro l i g k x T C M v h hA hx hc hi2 hn
    omega
  | succ n ih =>
    intro l i g k x T C M v h hA hx hc hi2 hn hv
    have hb1 := h.1
    have hb3 := h.2.2.1
    have hw := h.2.2.2.1
    have hh := cd_hh h
    have hRb := cd_Rb hw hh
    match l, hx, hc, hi2, hn with
    | [], hx, hc, hi2, hn =>
      rw [List.length_nil] at hi2
      have ei : i = N := by omega
      subst ei
      refine pk_le i i (fun _ => nm_r (nI_add m i) ⟨pk_in s 8 hs8, ?_⟩) (fun z => absurd z (by omega))
      have e1 : nI (m + i) - 1 = nI (m + i - 1) := pk_sub (b := 1) (by omega)
      have e2 : (nI (m + i - 1)).toNatClampNeg = m + i - 1 := nI_clamp (by omega)
      have hin : vp_in (nI (m + i - 1)) 320 := pk_in (m + i - 1) 320 (by omega)
      rw [es, e1, e2]
      by_cases e : A s = 0
      · refine br_t e ⟨hin, nm_e (nm_r (nI_add p i) (cd_setReg hr (H _ _ ?_)))⟩
        obtain ⟨K3, hs3, c1, c2⟩ := cd_alloc (T' := T) (C' := C) (M' := upd M (m + i - 1) 2) (n := i) (w := 0) h hN (by omega) (by omega) (by omega) (fun a ha => ⟨rfl, rfl, pk_un (by omega)⟩) (fun a q1 q2 => (hv a q1 (by omega)).1) (fun a q1 q2 => by rw [pk_un (by omega)]; exact (hv a q1 (by omega)).2) (Or.inl ⟨rfl, pk_us⟩)
        exact cd_Ji (cd_sr c1 (Or.inr (Or.inr ⟨rfl, m, rfl, Or.inl c2⟩)))
      · refine br_f e ⟨hin, nm_e ⟨pk_in s 8 hs8, pk_in s 8 hs8, cd_put_3 (show m + i < 320 by omega) (nm_r (nI_1 (m + i)) (nm_r (nI_add p i) (cd_setReg hr (H _ _ ?_))))⟩⟩
        obtain ⟨K3, hs3, c1, c2⟩ := cd_alloc (T' := upd T (m + i) (A s)) (C' := upd C (m + i) (D s)) (M' := upd M (m + i - 1) 0) (n := i) (w := 1) h hN (by omega) (by omega) (by omega) (fun a ha => ⟨pk_un (by omega), pk_un (by omega), pk_un (by omega)⟩) (fun a q1 q2 => by
          by_cases ea : a = m + i
          · rw [ea, pk_us, pk_us]
            exact h.2.2.2.2.1 s hs8
          · rw [pk_un ea, pk_un ea]
            exact (hv a q1 (by omega)).1) (fun a q1 q2 => by rw [pk_un (by omega)]; exact (hv a q1 (by omega)).2) (Or.inr ⟨rfl, pk_us⟩)
        exact cd_Ji (cd_sr c1 (Or.inr (Or.inr ⟨rfl, m, rfl, Or.inl c2⟩)))
    | j :: l', hx, hc, hi2, hn =>
      rw [List.length_cons] at hi2 hn
      obtain ⟨a, a1, a2, a3⟩ := hx j l' rfl
      subst a1
      have e1 : nI m + nI i = nI (m + i) := nI_add m i
      have e2 : (nI (m + i)).toNatClampNeg = m + i := nI_clamp (by omega)
      refine pk_le N i (fun z => absurd z (by omega)) (fun z => cd_fst hw hh a2 (fun g2 k2 b3 => ?_))
      rw [e1]
      refine cd_put_3 (show m + i < 320 by omega) ⟨pk_in (m + i) 320 (by omega), nm_r (e' := upd M (m + i) 1) (by rw [e2]) ?_⟩
      have agr : ∀ a, a < m → upd T (m + i) g2 a = T a ∧ upd C (m + i) k2 a = C a ∧ upd M (m + i) 1 a = M a := fun a ha => ⟨pk_un (by omega), pk_un (by omega), pk_un (by omega)⟩
      have h' := cd_agr h agr
      have hA' := cd_agrA h hA agr
      refine cd_nxt h'.2.2.2.1 hh hA' a2 (fun g' k' b1 b2 => nm_r (nI_1 i) ?_)
      rw [a3] at b2
      refine ih l' (i + 1) g' k' k' _ _ _ (cdr j) h' hA' (fun w l2 e => ?_) hc.2 (by omega) (by omega) (fun a q1 q2 => ?_)
      · have hc2 := hc.2
        rw [e] at hc2
        obtain ⟨_, w, w1, w2, w3⟩ := cd_vp b1 hRb (b2.trans hc2.1)
        exact ⟨w, w1, w2, w3⟩
      · by_cases e : a = m + i
        · rw [e, pk_us, pk_us, pk_us]
          exact ⟨b3, rfl⟩
        · rw [pk_un e, pk_un e, pk_un e]
          exact hv a q1 (by omega)
theorem cd_append {post : Int32 → St1 → Prop} {lo hi p r s q : Nat} {K : Nat → Nat} {hs : List Nat} {T C M A D : Nat → Int32} {E F : Nat → Int64} {g k : Int32} (h : cd_I lo hi p K hs T C M A D) (hr : r < 8) (hs8 : s < 8) (hq : q < 8) (H : ∀ x u, cd_J u → post x u) : wpX_append post (nI lo, nI hi, nI p, g, k, T, C, M, A, D, E, F) (nI r) (nI s) (nI q) := by
  have es : (nI s).toNatClampNeg = s := nI_clamp (by omega)
  have eq : (nI q).toNatClampNeg = q := nI_clamp (by omega)
  obtain ⟨nm, car, cdr, reg, hG⟩ := cd_can h
  unfold wpX_append
  refine cd_bad hr (br_t rfl (cd_bad hs8 (br_t rfl (cd_bad hq (br_t rfl ?_)))))
  refine cd_proper h hG hs8 (fun l g' k' a1 a2 => ?_) (fun g' k' a1 => br_f (by decide) (H _ _ (cd_Ji h)))
  refine pk_le 0 l.length (fun _ => ?_) (fun z => absurd z (by omega)) rfl rfl (by omega) (by omega)
  refine cd_mm (n := l.length) h hG a2 (fun u hu => ?_) (fun lo1 hi1 p1 K1 nm1 hs1 T1 C1 M1 D1 g1 k1 b1 b2 b3 => ?_)
  · obtain ⟨b, f, p, g, k, T, C, M, A, D, E, F⟩ := u
    exact br_t rfl (H _ _ hu)
  refine br_f (by decide) (pk_eq l.length 0 (fun z => ?_) (fun z => ?_) rfl rfl (by omega))
  · rw [eq]
    exact ⟨pk_in q 8 hq, pk_in q 8 hq, cd_setReg hr (H _ _ (cd_Ji (cd_sr b1 (b1.2.2.2.2.1 q hq))))⟩
  · have e1 : nI l.length + 1 = nI (l.length + 1) := nI_1 _
    rw [e1]
    refine cd_need (n := l.length + 1) b1 b2 (by omega) (fun lo2 m p2 K2 nm2 hs2 T2 C2 M2 D2 g2 k2 c1 c2 c3 c4 => ⟨pk_in s 8 hs8, nm_r (e' := D2 s) (by rw [es]) ⟨l.length + 1, ?_⟩⟩)
    refine cd_appL hr hq (by omega) (by omega) (by omega) H (l.length + 1) l 0 g2 k2 (D2 s) T2 C2 M2 (reg s) c1 c2.1 (fun j l' e => ?_) a1 (by omega) (by omega) (fun a q1 q2 => absurd q1 (by omega))
    rw [e] at a1
    obtain ⟨_, w, w1, w2, w3⟩ := cd_vp (c1.2.2.2.2.1 s hs8) (cd_Rb c1.2.2.2.1 (cd_hh c1)) ((c2.2 s hs8).trans a1.1)
    exact ⟨w, w1, w2, w3⟩
theorem cd_turn {post : Int32 → St1 → Prop} {x y : Int32} {u : St1} (hu : cd_J u) (H : ∀ x u, cd_J u → post x u) : wpL_turn post u x y := by
  obtain ⟨lo, hi, p, K, hs, g, k, T, C, M, A, D, E, F, rfl, h⟩ := hu
  obtain ⟨r, hr, er⟩ := pk_andE y (m := 7) 3 (by decide)
  obtain ⟨a, ha, ea⟩ := pk_andE (y >>> ((3 : Int32) &&& 31)) (m := 7) 3 (by decide)
  obtain ⟨b, hb, eb⟩ := pk_andE (y >>> ((6 : Int32) &&& 31)) (m := 7) 3 (by decide)
  obtain ⟨a3, ha3, ea3⟩ := pk_andE (nI a) (m := 3) 2 (by decide)
  obtain ⟨b3, hb3, eb3⟩ := pk_andE (nI b) (m := 3) 2 (by decide)
  obtain ⟨w, hw, ew⟩ := pk_andE (y >>> ((10 : Int32) &&& 31)) (m := 3) 2 (by decide)
  have hr8 : r < 8 := hr
  have ha8 : a < 8 := ha
  have hb8 : b < 8 := hb
  have ha4 : a3 < 4 := ha3
  have hb4 : b3 < 4 := hb3
  have hw4 : w < 4 := hw
  have H' : ∀ x u, cd_J u → (match u with | (f0, f1, f2, f3, f4, a1, a2, a3, a4, a5, a6, a7) => post x (f0, f1, f2, f3, f4, a1, a2, a3, a4, a5, a6, a7)) := fun x u hu => by
    obtain ⟨f0, f1, f2, f3, f4, a1, a2, a3, a4, a5, a6, a7⟩ := u
    exact H x _ hu
  have e1 : (1 : Int32) + nI b3 = nI (1 + b3) := nI_add 1 b3
  unfold wpL_turn
  refine nm_e (nm_r er (nm_r ea (nm_r eb ?_)))
  rw [ea3, eb3, ew, e1]
  refine br_c (fun _ => cd_nil h hr8 H') (fun _ => br_c (fun _ => br_c (fun _ => br_c (fun _ => ?_) (fun _ => cd_list h hr8 (by omega) (by omega) (by omega) H')) (fun _ => cd_cons h hr8 ha8 hb8 H')) (fun _ => cd_number h hr8 H'))
  refine br_c (fun _ => cd_car h hr8 ha8 H') (fun _ => br_c (fun _ => cd_cdr h hr8 ha8 H') (fun _ => br_c (fun _ => cd_setCar h hr8 ha8 H') (fun _ => br_c (fun _ => cd_setCdr h hr8 ha8 H') (fun _ => br_c (fun _ => cd_walk h hr8 ha8 (by omega) H') (fun _ => br_c (fun _ => br_c (fun _ => ?_) (fun _ => br_c (fun _ => cd_delete h hr8 H') (fun _ => cd_copyJ h hr8 ha8 H'))) (fun _ => cd_append h hr8 ha8 hb8 H'))))))
  obtain ⟨nm, car, cdr, reg, hG⟩ := cd_can h
  exact cd_reverse h hG hr8 (fun l lo' hi' p' K' nm' hs' T' C' M' A' D' g' k' _ _ c1 _ => H _ _ (cd_Ji c1)) (fun g' k' _ => H _ _ (cd_Ji h))
end
section
/-! ===== alike: only diagonal bits are claimed ===== -/
theorem cd_b1 : ∀ l, l < 64 → ((1 : Int64) <<< ((nI l).toInt64 &&& 63)).toBitVec = BitVec.twoPow 64 l := by decide +kernel
theorem cd_bc {e x : Int64} {j : Nat} (hj : j < 64) (h : ¬ ((e &&& x) &&& ((1 : Int64) <<< ((nI j).toInt64 &&& 63))) = 0) : e.toBitVec.getLsbD j = true := by
  cases hb : e.toBitVec.getLsbD j with
  | true => rfl
  | false =>
    refine absurd (Int64.toBitVec_inj.mp ?_) h
    rw [Int64.toBitVec_and, Int64.toBitVec_and, cd_b1 j hj]
    apply BitVec.eq_of_getLsbD_eq
    intro i hi
    rw [BitVec.getLsbD_and, BitVec.getLsbD_and, BitVec.getLsbD_twoPow]
    by_cases e : j = i
    · subst e
      rw [hb]
      simp
    · simp [e]
theorem cd_bo {e : Int64} {k j : Nat} (hk : k < 64) (h : (e ||| ((1 : Int64) <<< ((nI k).toInt64 &&& 63))).toBitVec.getLsbD j = true) : e.toBitVec.getLsbD j = true ∨ j = k := by
  rw [Int64.toBitVec_or, cd_b1 k hk, BitVec.getLsbD_or, BitVec.getLsbD_twoPow] at h
  by_cases e : k = j
  · exact Or.inr e.symm
  · left
    simpa [e] using h
theorem cd_b0 {j : Nat} : (0 : Int64).toBitVec.getLsbD j = false := by
  show (0#64).getLsbD j = false
  simp
def cd_dg (K : Nat → Nat) (lo : Nat) (E : Nat → Int64) : Prop := ∀ i j, i < 64 → j < 64 → (E i).toBitVec.getLsbD j = true → j = i ∧ K (lo + i) = 1
theorem cd_veq {lo hi : Nat} {K nm : Nat → Nat} {T C M : Nat → Int32} {car cdr : Nat → cd_V} {t c u d : Int32} (hw : cd_W lo hi K T C M) (hh : hi ≤ 320) (hA : cd_A K nm T C M car cdr) (h2 : ∀ a, K a ≠ 2) (o1 : cd_ok (cd_R K) t c) (o2 : cd_ok (cd_R K) u d) (e : cd_v nm t c = cd_v nm u d) : u = t ∧ (t = 0 ∨ d = c) := by
  have hRb := cd_Rb hw hh
  have h1 : ∀ n, cd_R K n → K n = 1 := fun n hn => by
    have a1 := h2 n
    have a2 := hw.1 n (by unfold cd_R at hn; omega)
    unfold cd_R at hn
    omega
  rcases o1 with z | z | ⟨z, n, z2, z3⟩
  · rcases o2 with y | y | ⟨y, m, y2, y3⟩
    · exact ⟨by rw [z, y], Or.inl z⟩
    · rw [z, y, cd_v0, cd_v1] at e
      exact absurd e.symm (Option.some_ne_none _)
    · rw [z, y, y2, cd_v0, cd_v2 (hRb m y3)] at e
      exact absurd e.symm cd_pn
  · rcases o2 with y | y | ⟨y, m, y2, y3⟩
    · rw [z, y, cd_v0, cd_v1] at e
      exact absurd e (Option.some_ne_none _)
    · rw [z, y, cd_v1, cd_v1] at e
      refine ⟨by rw [z, y], Or.inr ?_⟩
      injection e with e
      injection e with e
      exact e.symm
    · rw [z, y, y2, cd_v1, cd_v2 (hRb m y3)] at e
      unfold cd_p at e
      injection e with e
      cases e
  · rcases o2 with y | y | ⟨y, m, y2, y3⟩
    · rw [z, y, z2, cd_v0, cd_v2 (hRb n z3)] at e
      exact absurd e cd_pn
    · rw [z, y, z2, cd_v1, cd_v2 (hRb n z3)] at e
      unfold cd_p at e
      injection e with e
      cases e
    · rw [z, y, z2, y2, cd_v2 (hRb n z3), cd_v2 (hRb m y3)] at e
      refine ⟨by rw [z, y], Or.inr ?_⟩
      rw [z2, y2, hA.2.2 n m (h1 n z3) (h1 m y3) (cd_pi e)]
section
variable {b f p g k : Int32} {T C M A D : Nat → Int32} {E F : Nat → Int64}
theorem cd_gotCarE {post : St1 → Prop} {a s : Nat} {x : Int32} (ex : x = nI a) (hs : cd_st T C a s) (h : post (b, f, p, T s, C s, T, C, M, A, D, E, F)) : wpX_gotCar post (b, f, p, g, k, T, C, M, A, D, E, F) x := by
  rw [ex]
  exact cd_gotCar hs h
theorem cd_gotCdrE {post : St1 → Prop} {a s : Nat} {x : Int32} (ex : x = nI a) (hs : cd_st T C a s) (h1 : M s = 0 → s + 1 < 320) (h : post (b, f, p, cd_dt T M s, cd_dc C M s, T, C, M, A, D, E, F)) : wpX_gotCdr post (b, f, p, g, k, T, C, M, A, D, E, F) x := by
  rw [ex]
  exact cd_gotCdr hs h1 h
end
section
variable {lo hi : Nat} {K : Nat → Nat} {T C M A D : Nat → Int32} {p : Int32}
theorem cd_claim {post : Int32 → St1 → Prop} {E F : Nat → Int64} {g k t c d : Int32} (hw : cd_W lo hi K T C M) (hl : lo ≤ 160) (h64 : hi ≤ lo + 64) (h2 : ∀ a, K a ≠ 2) (hd : cd_dg K lo E) (ho : cd_ok (cd_R K) t c) (hcd : t = 0 ∨ d = c)
    (H : ∀ E', cd_dg K lo E' → post 1 (nI lo, nI hi, p, g, k, T, C, M, A, D, E', F)) : wpX_claim post (nI lo, nI hi, p, g, k, T, C, M, A, D, E, F) t c t d := by
  unfold wpX_claim
  refine br_t rfl ?_
  by_cases e : t = 2
  · obtain ⟨n, n1, n2⟩ := cd_ok2 ho e
    have hz := hw.1 n (by unfold cd_R at n2; omega)
    have k1 : K n = 1 := by
      have a1 := h2 n
      unfold cd_R at n2
      omega
    have ed : d = nI n := by
      rcases hcd with z | z
      · exact absurd (z.symm.trans e) (by decide)
      · rw [z, n1]
    have es : nI n - nI lo = nI (n - lo) := pk_sub (by omega)
    have hin : vp_in (nI (n - lo)) 64 := pk_in (n - lo) 64 (by omega)
    rw [n1, ed, es, nI_clamp (show n - lo < 2 ^ 31 by omega)]
    refine br_t e ⟨hin, hin, nm_e (H _ (fun i j hi hj hb => ?_))⟩
    by_cases ei : i = n - lo
    · rw [ei, pk_uLs] at hb
      rcases cd_bo (by omega) hb with hb | hb
      · rw [ei]
        exact hd (n - lo) j (by omega) hj hb
      · exact ⟨by omega, by rw [ei, show lo + (n - lo) = n by omega]; exact k1⟩
    · rw [pk_uLn ei] at hb
      exact hd i j hi hj hb
  · refine br_f e ?_
    rcases hcd with z | z
    · exact br_t z (H E hd)
    · exact br_c (fun _ => H E hd) (fun _ => br_t z.symm (H E hd))
theorem cd_rowL {post : Int32 → St1 → Prop} {i : Nat} (hw : cd_W lo hi K T C M) (hl : lo ≤ 160) (h64 : hi ≤ lo + 64) (h2 : ∀ a, K a ≠ 2) (hi64 : i < 64)
    (H : ∀ E F g k, cd_dg K lo E → post 1 (nI lo, nI hi, p, g, k, T, C, M, A, D, E, F)) :
    ∀ (n j : Nat) (E F : Nat → Int64) (g k : Int32), cd_dg K lo E → j ≤ 64 → 64 < n + j → wX_settleRow_4 post (nI i) n 1 (nI j) (nI lo) (nI hi) p g k T C M A D E F := by
  have b1 : narrow .boolean (.int 1) = .int 1 := by rfl
  have ei : (nI i).toNatClampNeg = i := nI_clamp (by omega)
  have hin : vp_in (nI i) 64 := pk_in i 64 hi64
  intro n
  induction n with
  | zero =>
    intro j E F g k hd h1 h3
    omega
  | succ n ih =>
    intro j E F g k hd h1 h3
    refine pk_le 64 j (fun z => ⟨b1, H E F g k hd⟩) (fun z => br_f (by decide) ⟨hin, hin, ?_⟩)
    rw [ei]
    refine br_c (fun _ => nm_r (nI_1 j) (ih (j + 1) E F g k hd (by omega) (by omega))) (fun hb => ⟨hin, hin, nm_e ?_⟩)
    obtain ⟨ej, kj⟩ := hd i j hi64 z (cd_bc z hb)
    subst ej
    have ec : nI lo + nI j = nI (lo + j) := nI_add lo j
    have hok := hw.2.1 _ kj
    have hz := hw.1 (lo + j) (by omega)
    have hst : cd_st T C (lo + j) (lo + j) := ⟨by omega, by omega, cd_okn hok.1, Or.inl rfl⟩
    have hm : M (lo + j) = 0 → lo + j + 1 < 320 := fun z => by
      have := hw.1 (lo + j + 1) (by rw [hok.2.1 z]; omega)
      omega
    have hdk : cd_ok (cd_R K) (cd_dt T M (lo + j)) (cd_dc C M (lo + j)) := cd_dok (fun z => hw.2.2.2 _ (hok.2.1 z)) hok.2.2
    refine cd_gotCarE ec hst (cd_gotCarE ec hst (cd_claim hw hl h64 h2 hd hok.1 (Or.inr rfl) (fun E' hd' => ?_)))
    refine cd_gotCdrE ec hst hm (cd_gotCdrE ec hst hm (br_f (by decide) (cd_claim hw hl h64 h2 hd' hdk (Or.inr rfl) (fun E2 hd2 => ?_))))
    exact br_f (by decide) (nm_r (nI_1 j) (ih (j + 1) E2 _ _ _ hd2 (by omega) (by omega)))
theorem cd_alk108 {post : Int32 → St1 → Prop} {J : Int32 → Int32 → Int32 → Int32 → Int32 → Int32 → Int32 → Int32 → (Nat → Int32) → (Nat → Int32) → (Nat → Int32) → (Nat → Int32) → (Nat → Int32) → (Nat → Int64) → (Nat → Int64) → Prop} {q : Nat} (hw : cd_W lo hi K T C M) (hl : lo ≤ 160) (h64 : hi ≤ lo + 64) (h2 : ∀ a, K a ≠ 2)
    (H : ∀ E F g k x4, cd_dg K lo E → J 1 x4 (nI (q + 1)) (nI lo) (nI hi) p g k T C M A D E F) :
    ∀ (n i : Nat) (E F : Nat → Int64) (g k x4 : Int32), cd_dg K lo E → i ≤ 64 → 64 < n + i → wX_alike_108 post J (nI q) n 1 x4 (nI i) (nI lo) (nI hi) p g k T C M A D E F := by
  intro n
  induction n with
  | zero =>
    intro i E F g k x4 hd h1 h3
    omega
  | succ n ih =>
    intro i E F g k x4 hd h1 h3
    refine pk_le 64 i (fun z => nm_r (nI_1 q) (H E F g k x4 hd)) (fun z => br_f (by decide) ⟨pk_in i 64 z, pk_in i 64 z, ?_⟩)
    refine br_c (fun _ => nm_r (nI_1 i) (ih (i + 1) E F g k x4 hd (by omega) (by omega))) (fun _ => ⟨65, ?_⟩)
    exact cd_rowL hw hl h64 h2 z (fun E' F' g' k' hd' => nm_r (nI_1 i) (ih (i + 1) E' F' g' k' 1 hd' (by omega) (by omega))) 65 0 E F g k hd (by omega) (by omega)
theorem cd_alk85 {post : Int32 → St1 → Prop} (hw : cd_W lo hi K T C M) (hl : lo ≤ 160) (h64 : hi ≤ lo + 64) (h2 : ∀ a, K a ≠ 2)
    (H : ∀ E F g k, post 1 (nI lo, nI hi, p, g, k, T, C, M, A, D, E, F)) :
    ∀ (n j : Nat) (E F : Nat → Int64) (g k x4 : Int32), cd_dg K lo E → j ≤ 1100 → 1100 < n + j → wX_alike_85 post n 1 x4 (nI j) (nI lo) (nI hi) p g k T C M A D E F := by
  have b1 : narrow .boolean (.int 1) = .int 1 := by rfl
  intro n
  induction n with
  | zero =>
    intro j E F g k x4 hd h1 h3
    omega
  | succ n ih =>
    intro j E F g k x4 hd h1 h3
    refine pk_le 1100 j (fun z => ⟨b1, H E F g k⟩) (fun z => br_f (by decide) (br_c (fun _ => ⟨b1, H E F g k⟩) (fun _ => ⟨65, ?_⟩)))
    exact cd_alk108 hw hl h64 h2 (fun E' F' g' k' x4' hd' => ih (j + 1) E' F' g' k' x4' hd' (by omega) (by omega)) 65 0 E F g k 0 hd (by omega) (by omega)
theorem cd_alk24 {post : Int32 → St1 → Prop} {nm : Nat → Nat} {car cdr reg : Nat → cd_V} {g k : Int32} {r s q : Nat} {hs : List Nat} (hI : cd_I lo hi q K hs T C M A D) (hG : cd_G K nm T C M A D car cdr reg) (h64 : hi ≤ lo + 64) (h2 : ∀ a, K a ≠ 2) (hr : r < 8) (hs8 : s < 8) (he : reg r = reg s)
    (H : ∀ E F g k, post 1 (nI lo, nI hi, p, g, k, T, C, M, A, D, E, F)) :
    ∀ (n i : Nat) (E F : Nat → Int64), (∀ j, j < i → E j = 0) → i ≤ 64 → 64 < n + i → wX_alike_24 post (nI r) (nI s) (nI lo) (nI hi) p g k n (nI i) T C M A D E F := by
  have hl : lo ≤ 160 := by
    have := hI.1
    omega
  have er : (nI r).toNatClampNeg = r := nI_clamp (by omega)
  have es : (nI s).toNatClampNeg = s := nI_clamp (by omega)
  have hw := hI.2.2.2.1
  have o1 := hI.2.2.2.2.1 r hr
  have o2 := hI.2.2.2.2.1 s hs8
  obtain ⟨et, ec⟩ := cd_veq hw (cd_hh hI) hG.1 h2 o1 o2 (by rw [hG.2 r hr, hG.2 s hs8, he])
  intro n
  induction n with
  | zero =>
    intro i E F h0 h1 h3
    omega
  | succ n ih =>
    intro i E F h0 h1 h3
    refine pk_le 64 i (fun z => ⟨pk_in r 8 hr, pk_in r 8 hr, pk_in s 8 hs8, pk_in s 8 hs8, ?_⟩) (fun z => ⟨pk_in i 64 z, nm_r (e' := vp_updL E i 0) (by rw [nI_clamp (by omega)]) ⟨pk_in i 64 z, nm_e (nm_r (nI_1 i) (ih (i + 1) _ _ (fun j hj => ?_) (by omega) (by omega)))⟩⟩)
    · rw [er, es, et]
      refine cd_claim hw hl h64 h2 (fun a b ha hb hab => ?_) o1 ec (fun E' hd' => ⟨1101, ?_⟩)
      · rw [h0 a (by omega), cd_b0] at hab
        cases hab
      · exact cd_alk85 hw hl h64 h2 H 1101 0 E' F g k 1 hd' (by omega) (by omega)
    · by_cases e : j = i
      · rw [e, pk_uLs]
      · rw [pk_uLn e]
        exact h0 j (by omega)
end
theorem cd_alike {post : Int32 → St1 → Prop} {lo hi p : Nat} {K nm : Nat → Nat} {hs : List Nat} {T C M A D : Nat → Int32} {E F : Nat → Int64} {g k : Int32} {car cdr reg : Nat → cd_V} {r s : Nat} (h : cd_I lo hi p K hs T C M A D) (hG : cd_G K nm T C M A D car cdr reg) (hr : r < 8) (hs8 : s < 8) (he : reg r = reg s)
    (H : ∀ u, cd_J u → post 1 u) : wpX_alike post (nI lo, nI hi, nI p, g, k, T, C, M, A, D, E, F) (nI r) (nI s) := by
  unfold wpX_alike
  refine cd_bad hr (br_t rfl (cd_bad hs8 (br_t rfl (cd_collect h hG (fun lo' hi' K' nm' hs' dn T' C' M' D' g' k' a1 a2 a3 a4 a5 a6 a7 => ⟨65, ?_⟩)))))
  exact cd_alk24 a1 a2 a4 a3 hr hs8 he (fun E F g k => H _ (cd_Ji a1)) 65 0 E F (fun j hj => absurd hj (by omega)) (by omega) (by omega)
end
section
/-! ===== the law ===== -/
theorem cd_rq (x : Int32) : ∃ r q : Nat, r < 8 ∧ q < 8 ∧ r ≠ q ∧ x &&& 7 = nI r ∧ (x + 4) &&& 7 = nI q := by
  have h1 := pk_and x (m := 7) 3 (by decide)
  have h2 := pk_and (x + 4) (m := 7) 3 (by decide)
  have e : (x + 4).toBitVec.toNat = (x.toBitVec.toNat + 4) % 2 ^ 32 := by
    rw [Int32.toBitVec_add, BitVec.toNat_add]
    rfl
  refine ⟨_, _, ?_, ?_, ?_, h1, h2⟩
  · exact Nat.mod_lt _ (by decide)
  · exact Nat.mod_lt _ (by decide)
  · rw [e]
    omega
theorem cd_same_len {a b : List Nat} {P : Nat → Prop} (ha : a.Nodup) (hb : b.Nodup) (h1 : ∀ i, i ∈ a ↔ P i) (h2 : ∀ i, i ∈ b ↔ P i) : a.length = b.length := by
  have x := cd_len a b ha (fun i hi => (h2 i).mpr ((h1 i).mp hi))
  have y := cd_len b a hb (fun i hi => (h1 i).mpr ((h2 i).mp hi))
  omega
theorem cd_len2 {post : Int32 → St1 → Prop} {lo hi p r : Nat} {K nm : Nat → Nat} {hs : List Nat} {T C M A D : Nat → Int32} {E F : Nat → Int64} {g k : Int32} {car cdr reg : Nat → cd_V} (h : cd_I lo hi p K hs T C M A D) (hG : cd_G K nm T C M A D car cdr reg) (hr : r < 8)
    (H : ∀ x g' k', (∀ l, cd_ch cdr l (reg r) none → l.length ≤ 32 → x = nI l.length) → post x (nI lo, nI hi, nI p, g', k', T, C, M, A, D, E, F)) :
    wpX_length post (nI lo, nI hi, nI p, g, k, T, C, M, A, D, E, F) (nI r) := by
  refine cd_length h hG hr (fun l e g' k' a1 a2 a3 => H _ g' k' (fun l0 b1 b2 => ?_)) (fun l e g' k' a1 a2 => H _ g' k' (fun l0 b1 b2 => ?_))
  · rw [(cd_chd _ _ _ _ _ a1 b1 a2 cd_np0).1]
  · have := cd_chlt _ _ _ _ _ b1 a1 cd_np0
    omega
theorem cd_l115 {L : Nat} {xs : Nat → Int32} {x2 : Int32} {kc ks : Nat} :
    ∀ (n i : Nat) (lo hi p : Nat) (K : Nat → Nat) (hs : List Nat) (g k : Int32) (T C M A D : Nat → Int32) (E F : Nat → Int64), cd_I lo hi p K hs T C M A D → i ≤ 4 → 4 < n + i → wL_law_115 (fun r => r = 1) L xs x2 kc ks n (nI i) (nI lo) (nI hi) (nI p) g k T C M A D E F := by
  intro n
  induction n with
  | zero =>
    intro i lo hi p K hs g k T C M A D E F h h1 h2
    omega
  | succ n ih =>
    intro i lo hi p K hs g k T C M A D E F h h1 h2
    refine pk_le 4 i (fun _ => rfl) (fun z => ?_)
    obtain ⟨r, q, hr, hq, hrq, er, eq⟩ := cd_rq (x2 + nI i)
    refine nm_r er (nm_r eq ?_)
    obtain ⟨nm, car, cdr, reg0, hG0⟩ := cd_can h
    obtain ⟨reg, hreg⟩ : ∃ reg, reg = cd_uv reg0 q (cd_v nm (A r) (D r)) := ⟨_, rfl⟩
    have hsame : reg r = reg q := by rw [hreg, cd_uvs, cd_uvd hrq, hG0.2 r hr]
    refine cd_copy h hq hr ?_
    have hI1 := cd_sr (r := q) h (h.2.2.2.2.1 r hr)
    have hG1 : cd_G K nm T C M (upd A q (A r)) (upd D q (D r)) car cdr reg := by
      rw [hreg]
      exact cd_srG hG0
    refine cd_len2 hI1 hG1 hr (fun x66 g1 k1 hx66 => ?_)
    refine cd_live hI1 hG1 (fun lo2 hi2 K2 nm2 hs2 dn T2 C2 M2 D2 g2 k2 hI2 hG2 hnd hmem => ?_)
    refine cd_reverse hI2 hG2 hr (fun l lo3 hi3 p3 K3 nm3 hs3 T3 C3 M3 A3 D3 g3 k3 hch hlen hI3 hG3 => ?_) (fun g' k' _ => br_t (by decide) (nm_r (nI_1 i) (ih (i + 1) _ _ _ _ _ _ _ _ _ _ _ _ _ _ hI2 (by omega) (by omega))))
    have hx := hx66 l hch hlen
    subst hx
    refine br_f (nI_pos (by omega)) ?_
    have hnl := cd_chn cd_np0 l _ hch
    have hch3 : cd_ch (cd_rv l cdr none) l.reverse (cd_uv reg r (cd_lv l none) r) none := by
      have := cd_chr l cdr (reg r) none none [] hch rfl (fun j _ => List.not_mem_nil) hnl
      rw [List.append_nil] at this
      rw [cd_uvs]
      exact this
    have hlr : l.reverse.length = l.length := List.length_reverse
    refine cd_len2 hI3 hG3 hr (fun x149 g4 k4 hx149 => ?_)
    have hx149' := hx149 _ hch3 (by rw [hlr]; exact hlen)
    rw [hlr] at hx149'
    subst hx149'
    refine cd_reverse hI3 hG3 hr (fun l1 lo4 hi4 p4 K4 nm4 hs4 T4 C4 M4 A4 D4 g5 k5 hch4 hlen4 hI4 hG4 => ?_) (fun g' k' hno => absurd (hno _ hch3 (by rw [hlr]; exact hlen)) (fun z => z))
    have el1 : l1 = l.reverse := (cd_chd _ _ _ _ _ hch4 hch3 cd_np0 cd_np0).1
    subst el1
    have ecdr : cd_rv l.reverse (cd_rv l cdr none) none = cdr := cd_rv2 cd_np0 l cdr (reg r) none hch hnl
    have ereg : cd_uv (cd_uv reg r (cd_lv l none)) r (cd_lv l.reverse none) = reg := by
      rw [cd_lvr l _ hch]
      exact cd_uu
    rw [ecdr, ereg] at hG4
    rw [hlr]
    refine br_t rfl (br_t rfl (br_t rfl ?_))
    refine cd_len2 hI4 hG4 hr (fun x206 g6 k6 hx206 => ?_)
    refine br_t (hx206 l hch hlen) ?_
    refine cd_same hI4 hG4 hr hq (fun _ => br_f (by decide) ?_) (fun z => absurd hsame z)
    refine cd_len2 hI4 hG4 hq (fun x236 g7 k7 hx236 => ?_)
    rw [← hsame] at hx236
    refine br_t (hx236 l hch hlen) ?_
    refine cd_live hI4 hG4 (fun lo5 hi5 K5 nm5 hs5 dn5 T5 C5 M5 D5 g8 k8 hI5 hG5 hnd5 hmem5 => ?_)
    refine br_t (by rw [cd_same_len hnd5 hnd hmem5 hmem]) (nm_r (nI_1 i) (ih (i + 1) _ _ _ _ _ _ _ _ _ _ _ _ _ _ hI5 (by omega) (by omega)))
theorem cd_l72 {post : Int32 → Prop} {L : Nat} {xs : Nat → Int32} {x2 : Int32} {kc ks a : Nat} {J : Int32 → Int32 → Int32 → Int32 → Int32 → Int32 → (Nat → Int32) → (Nat → Int32) → (Nat → Int32) → (Nat → Int32) → (Nat → Int32) → (Nat → Int64) → (Nat → Int64) → Prop} (ha : a < 8)
    (H : ∀ (lo hi p : Nat) (K : Nat → Nat) (hs : List Nat) (g k : Int32) (T C M A D : Nat → Int32) (E F : Nat → Int64), cd_I lo hi p K hs T C M A D → J (nI (a + 1)) (nI lo) (nI hi) (nI p) g k T C M A D E F) :
    ∀ (n i : Nat) (lo hi p : Nat) (K : Nat → Nat) (hs : List Nat) (g k : Int32) (T C M A D : Nat → Int32) (E F : Nat → Int64), cd_I lo hi p K hs T C M A D → i ≤ 8 → 8 < n + i → wL_law_72 post L xs J x2 (nI a) kc ks n (nI i) (nI lo) (nI hi) (nI p) g k T C M A D E F := by
  intro n
  induction n with
  | zero =>
    intro i lo hi p K hs g k T C M A D E F h h1 h2
    omega
  | succ n ih =>
    intro i lo hi p K hs g k T C M A D E F h h1 h2
    obtain ⟨nm, car, cdr, reg, hG⟩ := cd_can h
    refine pk_le 8 i (fun _ => nm_r (nI_1 a) (H _ _ _ _ _ _ _ _ _ _ _ _ _ _ h)) (fun z => ?_)
    refine cd_same h hG ha z (fun e => br_f (by decide) ?_) (fun _ => br_t rfl (nm_r (nI_1 i) (ih (i + 1) _ _ _ _ _ _ _ _ _ _ _ _ _ _ h (by omega) (by omega))))
    refine cd_alike h hG ha z e (fun u hu => ?_)
    obtain ⟨lo', hi', p', K', hs', g', k', T', C', M', A', D', E', F', rfl, h'⟩ := hu
    exact br_f (by decide) (nm_r (nI_1 i) (ih (i + 1) _ _ _ _ _ _ _ _ _ _ _ _ _ _ h' (by omega) (by omega)))
theorem cd_l63 {L : Nat} {xs : Nat → Int32} {x2 : Int32} {kc ks : Nat} :
    ∀ (n i : Nat) (lo hi p : Nat) (K : Nat → Nat) (hs : List Nat) (g k : Int32) (T C M A D : Nat → Int32) (E F : Nat → Int64), cd_I lo hi p K hs T C M A D → i ≤ 8 → 8 < n + i → wL_law_63 (fun r => r = 1) L xs x2 kc ks n (nI i) (nI lo) (nI hi) (nI p) g k T C M A D E F := by
  intro n
  induction n with
  | zero =>
    intro i lo hi p K hs g k T C M A D E F h h1 h2
    omega
  | succ n ih =>
    intro i lo hi p K hs g k T C M A D E F h h1 h2
    refine pk_le 8 i (fun _ => ⟨5, cd_l115 5 0 _ _ _ _ _ _ _ _ _ _ _ _ _ _ h (by omega) (by omega)⟩) (fun z => ⟨9, ?_⟩)
    exact cd_l72 z (fun lo hi p K hs g k T C M A D E F h => ih (i + 1) lo hi p K hs g k T C M A D E F h (by omega) (by omega)) 9 0 _ _ _ _ _ _ _ _ _ _ _ _ _ _ h (by omega) (by omega)
theorem cd_l23 {L : Nat} {xs : Nat → Int32} {x2 : Int32} {kc ks : Nat} (hL : L ≤ 260) :
    ∀ (n i : Nat) (lo hi p : Nat) (K : Nat → Nat) (hs : List Nat) (g k : Int32) (T C M A D : Nat → Int32) (E F : Nat → Int64), cd_I lo hi p K hs T C M A D → i ≤ L + 1 → L + 2 ≤ n + i → wL_law_23 (fun r => r = 1) L xs x2 kc ks n (nI i) (nI lo) (nI hi) (nI p) g k T C M A D E F := by
  intro n
  induction n with
  | zero =>
    intro i lo hi p K hs g k T C M A D E F h h1 h2
    omega
  | succ n ih =>
    intro i lo hi p K hs g k T C M A D E F h h1 h2
    refine pk_le L (i + 1) (fun _ => ⟨9, cd_l63 9 0 _ _ _ _ _ _ _ _ _ _ _ _ _ _ h (by omega) (by omega)⟩) (fun z => ⟨pk_in i L (by omega), pk_in (i + 1) L z (nI_1 i), ?_⟩) rfl (nI_1 i)
    refine cd_turn (cd_Ji h) (fun x u hu => ?_)
    obtain ⟨lo', hi', p', K', hs', g', k', T', C', M', A', D', E', F', rfl, h'⟩ := hu
    obtain ⟨nm, car, cdr, reg, hG⟩ := cd_can h'
    refine cd_live h' hG (fun lo2 hi2 K2 nm2 hs2 dn T2 C2 M2 D2 g2 k2 hI2 hG2 hnd hmem => ?_)
    have h32 := hI2.2.2.2.2.2.2.2
    exact pk_le dn.length 32 (fun _ => nm_r (nI_add i 2) (ih (i + 2) _ _ _ _ _ _ _ _ _ _ _ _ _ _ hI2 (by omega) (by omega))) (fun z => absurd z (by omega)) rfl rfl (by omega)
theorem cd_I0 : cd_I 0 0 0 (fun _ => 0) [] (fun _ => 0) (fun _ => 0) (fun _ => 0) (fun _ => 0) (fun _ => 0) := by
  have n1 : ¬ (0 : Nat) = 1 := by decide
  have n2 : ¬ (0 : Nat) = 2 := by decide
  have n3 : ¬ (0 : Nat) = 3 := by decide
  exact ⟨Or.inl rfl, by omega, by omega, ⟨fun a h => absurd rfl h, fun a h => absurd h n1, fun a h => absurd h n2, fun a h => absurd h n3⟩, fun r _ => Or.inl rfl, fun a h => absurd h n1, by decide, by omega⟩
theorem i_vc (xs : Nat → Int32) (L : Nat) (hL : L ≤ 260) : wpL_law (fun r => r = 1) L xs := by
  have key : ∀ (x2 : Int32) (kc ks : Nat), ∃ fu, wL_law_23 (fun r => r = 1) L xs x2 kc ks fu 1 0 0 0 0 0 (fun _ => 0) (fun _ => 0) (fun _ => 0) (fun _ => 0) (fun _ => 0) (fun _ => 0) (fun _ => 0) := fun x2 kc ks =>
    ⟨L + 1, cd_l23 hL (L + 1) 1 0 0 0 _ _ 0 0 _ _ _ _ _ _ _ cd_I0 (by omega) (by omega)⟩
  refine ⟨7, 1104, by omega, by omega, ?_⟩
  refine ⟨by omega, by omega, by omega, by omega, by omega, by omega, by omega, by omega, by omega, by omega, by omega, by omega, by omega, by omega, ?_⟩
  refine pk_le L 0 (fun _ => key 0 _ _) (fun z => ⟨pk_in 0 L z, nm_e (key _ _ _)⟩)
end
