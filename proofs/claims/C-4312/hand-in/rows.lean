section
/-! numbers and stores -/
theorem fo_us {f : Nat → Int32} {k : Nat} {x : Int32} : upd f k x k = x := if_pos rfl
theorem fo_un {f : Nat → Int32} {k j : Nat} {x : Int32} (h : j ≠ k) : upd f k x j = f j := if_neg h
theorem fo_cl {n : Nat} (h : n < 24) : (nI n).toNatClampNeg = n := nI_clamp (by omega)
theorem fo_in {n : Nat} (h : n < 24) : vp_in (nI n) 24 := vp_in_nI h (by omega)
theorem fo_nn {n : Nat} (h : n < 24) : ¬ nI n < 0 := nI_pos (by omega)
theorem fo_ge {n : Nat} (h : n < 24) : 0 ≤ nI n := nI_pos' (by omega)
theorem fo_ij {a b : Nat} (ha : a < 24) (hb : b < 24) (h : nI a = nI b) : a = b := (nI_eq (by omega) (by omega)).mp h
theorem fo_ne {a b : Nat} (ha : a < 24) (hb : b < 24) (h : a ≠ b) : nI a ≠ nI b := fun e => h (fo_ij ha hb e)
theorem fo_neg : (-1 : Int32) < 0 := by decide
theorem fo_ngz : ¬ (0 : Int32) ≤ -1 := by decide
theorem fo_m1 {n : Nat} (h : n < 24) : nI n ≠ -1 := fun e => fo_nn h (by rw [e]; exact fo_neg)
theorem fo_b1 : vp_nar .boolean 1 = 1 := rfl
theorem fo_b0 : vp_nar .boolean 0 = 0 := rfl
theorem fo_10 : ¬ (1 : Int32) = 0 := by decide
theorem fo_n1 : nI 1 = 1 := rfl
/-! the contents of a piece: nodes with their values -/
def fo_ns (l : List (Nat × Int32)) : List Nat := l.map Prod.fst
def fo_sm : List (Nat × Int32) → Int32
  | [] => 0
  | q :: l => q.2 + fo_sm l
def fo_mi (a b : Int32) : Int32 := if a ≤ b then a else b
def fo_mn : List (Nat × Int32) → Int32
  | [] => 2147483647
  | q :: l => fo_mi q.2 (fo_mn l)
def fo_sh (h : Nat → Int32) : List (Nat × Int32) → Int32
  | [] => 0
  | q :: l => h q.1 + fo_sh h l
def fo_mp (c : Int32) (l : List (Nat × Int32)) : List (Nat × Int32) := l.map fun q => (q.1, c)
def fo_tw (t : Int32) (l : List (Nat × Int32)) : List (Nat × Int32) := if t = 0 then l else l.reverse
def fo_pn (p c : Int32) (l : List (Nat × Int32)) : List (Nat × Int32) := if p = 0 then l else fo_mp c l
def fo_LO (L : Nat → List (Nat × Int32)) (x : Int32) : List (Nat × Int32) := if x < 0 then [] else L x.toNatClampNeg
theorem fo_ns_app (a b : List (Nat × Int32)) : fo_ns (a ++ b) = fo_ns a ++ fo_ns b := List.map_append
theorem fo_ns_cons (q : Nat × Int32) (l : List (Nat × Int32)) : fo_ns (q :: l) = q.1 :: fo_ns l := rfl
theorem fo_ns_rev (a : List (Nat × Int32)) : fo_ns a.reverse = (fo_ns a).reverse := List.map_reverse
theorem fo_ns_mp (c : Int32) (l : List (Nat × Int32)) : fo_ns (fo_mp c l) = fo_ns l := by
  unfold fo_ns fo_mp
  rw [List.map_map]
  rfl
theorem fo_ns_len (l : List (Nat × Int32)) : (fo_ns l).length = l.length := List.length_map _
theorem fo_mp_len (c : Int32) (l : List (Nat × Int32)) : (fo_mp c l).length = l.length := List.length_map _
theorem fo_mp_app (c : Int32) (a b : List (Nat × Int32)) : fo_mp c (a ++ b) = fo_mp c a ++ fo_mp c b := List.map_append
theorem fo_mp_rev (c : Int32) (a : List (Nat × Int32)) : fo_mp c a.reverse = (fo_mp c a).reverse := List.map_reverse
theorem fo_mp_mp (c d : Int32) (a : List (Nat × Int32)) : fo_mp c (fo_mp d a) = fo_mp c a := by
  unfold fo_mp
  rw [List.map_map]
  rfl
theorem fo_mp_pn (c p d : Int32) (a : List (Nat × Int32)) : fo_mp c (fo_pn p d a) = fo_mp c a := by
  unfold fo_pn
  split
  · rfl
  · exact fo_mp_mp c d a
theorem fo_mp_tw (c t : Int32) (a : List (Nat × Int32)) : fo_mp c (fo_tw t a) = fo_tw t (fo_mp c a) := by
  unfold fo_tw
  split
  · rfl
  · exact fo_mp_rev c a
theorem fo_ns_pn (p c : Int32) (l : List (Nat × Int32)) : fo_ns (fo_pn p c l) = fo_ns l := by
  unfold fo_pn
  split
  · rfl
  · exact fo_ns_mp c l
theorem fo_len_pn (p c : Int32) (l : List (Nat × Int32)) : (fo_pn p c l).length = l.length := by
  rw [← fo_ns_len, fo_ns_pn, fo_ns_len]
theorem fo_len_tw (t : Int32) (l : List (Nat × Int32)) : (fo_tw t l).length = l.length := by
  unfold fo_tw
  split
  · rfl
  · exact List.length_reverse
theorem fo_mem_tw (t : Int32) (l : List (Nat × Int32)) (x : Nat) : x ∈ fo_ns (fo_tw t l) ↔ x ∈ fo_ns l := by
  unfold fo_tw
  split
  · exact Iff.rfl
  · rw [fo_ns_rev, List.mem_reverse]
theorem fo_tw0 (l : List (Nat × Int32)) : fo_tw 0 l = l := if_pos rfl
theorem fo_tw1 {t : Int32} (h : ¬ t = 0) (l : List (Nat × Int32)) : fo_tw t l = l.reverse := if_neg h
theorem fo_tw_rev {t t' : Int32} (h : t' = 0 ↔ ¬ t = 0) (l : List (Nat × Int32)) : (fo_tw t l).reverse = fo_tw t' l := by
  by_cases z : t = 0
  · rw [z, fo_tw0, fo_tw1 (fun q => h.mp q z)]
  · rw [fo_tw1 z, List.reverse_reverse, h.mpr z, fo_tw0]
theorem fo_pn0 (c : Int32) (l : List (Nat × Int32)) : fo_pn 0 c l = l := if_pos rfl
theorem fo_pn1 {p : Int32} (h : ¬ p = 0) (c : Int32) (l : List (Nat × Int32)) : fo_pn p c l = fo_mp c l := if_neg h
theorem fo_pn_rev (p c : Int32) (l : List (Nat × Int32)) : (fo_pn p c l).reverse = fo_pn p c l.reverse := by
  unfold fo_pn
  split
  · rfl
  · exact (fo_mp_rev c l).symm
theorem fo_LO_n (L : Nat → List (Nat × Int32)) : fo_LO L (-1) = [] := if_pos fo_neg
theorem fo_LO_s (L : Nat → List (Nat × Int32)) {c : Nat} (h : c < 24) : fo_LO L (nI c) = L c := by
  unfold fo_LO
  rw [if_neg (fo_nn h), fo_cl h]
theorem fo_mem_app {x : Nat} {a b : List (Nat × Int32)} : x ∈ fo_ns (a ++ b) ↔ x ∈ fo_ns a ∨ x ∈ fo_ns b := by
  rw [fo_ns_app, List.mem_append]
theorem fo_mem_cons {x : Nat} {q : Nat × Int32} {b : List (Nat × Int32)} : x ∈ fo_ns (q :: b) ↔ x = q.1 ∨ x ∈ fo_ns b := by
  rw [fo_ns_cons, List.mem_cons]
theorem fo_mem_nil {x : Nat} : ¬ x ∈ fo_ns [] := fun h => nomatch h
/-! sums and minima -/
theorem fo_sm_app (a b : List (Nat × Int32)) : fo_sm (a ++ b) = fo_sm a + fo_sm b := by
  induction a with
  | nil => exact (Int32.zero_add _).symm
  | cons q a ih =>
    show q.2 + fo_sm (a ++ b) = q.2 + fo_sm a + fo_sm b
    rw [ih, Int32.add_assoc]
theorem fo_sh_app (h : Nat → Int32) (a b : List (Nat × Int32)) : fo_sh h (a ++ b) = fo_sh h a + fo_sh h b := by
  induction a with
  | nil => exact (Int32.zero_add _).symm
  | cons q a ih =>
    show h q.1 + fo_sh h (a ++ b) = h q.1 + fo_sh h a + fo_sh h b
    rw [ih, Int32.add_assoc]
theorem fo_mi_t (a b : Int32) : (fo_mi a b).toInt = if a.toInt ≤ b.toInt then a.toInt else b.toInt := by
  unfold fo_mi
  by_cases h : a ≤ b
  · rw [if_pos h, if_pos (Int32.le_iff_toInt_le.mp h)]
  · rw [if_neg h, if_neg (fun z => h (Int32.le_iff_toInt_le.mpr z))]
theorem fo_mi_c (a b : Int32) : fo_mi a b = fo_mi b a := by
  apply Int32.toInt_inj.mp
  simp only [fo_mi_t]
  (repeat' split) <;> omega
theorem fo_mi_a (a b c : Int32) : fo_mi (fo_mi a b) c = fo_mi a (fo_mi b c) := by
  apply Int32.toInt_inj.mp
  simp only [fo_mi_t]
  (repeat' split) <;> omega
theorem fo_mi_m (a : Int32) : fo_mi a 2147483647 = a := by
  apply Int32.toInt_inj.mp
  have h := a.toInt_lt
  have e : (2147483647 : Int32).toInt = 2147483647 := by decide
  rw [fo_mi_t, e]
  split <;> omega
theorem fo_mi_s (a : Int32) : fo_mi a a = a := by
  unfold fo_mi
  split <;> rfl
theorem fo_mn_app (a b : List (Nat × Int32)) : fo_mn (a ++ b) = fo_mi (fo_mn a) (fo_mn b) := by
  induction a with
  | nil =>
    show fo_mn b = fo_mi 2147483647 (fo_mn b)
    rw [fo_mi_c, fo_mi_m]
  | cons q a ih =>
    show fo_mi q.2 (fo_mn (a ++ b)) = fo_mi (fo_mi q.2 (fo_mn a)) (fo_mn b)
    rw [ih, fo_mi_a]
theorem fo_sm_rev (a : List (Nat × Int32)) : fo_sm a.reverse = fo_sm a := by
  induction a with
  | nil => rfl
  | cons q a ih =>
    rw [List.reverse_cons, fo_sm_app, ih]
    show fo_sm a + (q.2 + 0) = q.2 + fo_sm a
    rw [Int32.add_zero, Int32.add_comm]
theorem fo_sh_rev (h : Nat → Int32) (a : List (Nat × Int32)) : fo_sh h a.reverse = fo_sh h a := by
  induction a with
  | nil => rfl
  | cons q a ih =>
    rw [List.reverse_cons, fo_sh_app, ih]
    show fo_sh h a + (h q.1 + 0) = h q.1 + fo_sh h a
    rw [Int32.add_zero, Int32.add_comm]
theorem fo_mn_rev (a : List (Nat × Int32)) : fo_mn a.reverse = fo_mn a := by
  induction a with
  | nil => rfl
  | cons q a ih =>
    rw [List.reverse_cons, fo_mn_app, ih]
    show fo_mi (fo_mn a) (fo_mi q.2 2147483647) = fo_mi q.2 (fo_mn a)
    rw [fo_mi_m, fo_mi_c]
theorem fo_sm_mp (c : Int32) (a : List (Nat × Int32)) : fo_sm (fo_mp c a) = nI a.length * c := by
  induction a with
  | nil =>
    show (0 : Int32) = nI 0 * c
    rw [nI_0, Int32.zero_mul]
  | cons q a ih =>
    show c + fo_sm (fo_mp c a) = nI (a.length + 1) * c
    rw [ih, nI_succ, Int32.add_mul, Int32.one_mul, Int32.add_comm]
theorem fo_sh_mp (h : Nat → Int32) (c : Int32) (a : List (Nat × Int32)) : fo_sh h (fo_mp c a) = fo_sh h a := by
  induction a with
  | nil => rfl
  | cons q a ih =>
    show h q.1 + fo_sh h (fo_mp c a) = h q.1 + fo_sh h a
    rw [ih]
theorem fo_mn_mp (c : Int32) (a : List (Nat × Int32)) (h : a ≠ []) : fo_mn (fo_mp c a) = c := by
  induction a with
  | nil => exact absurd rfl h
  | cons q a ih =>
    show fo_mi c (fo_mn (fo_mp c a)) = c
    cases a with
    | nil => exact fo_mi_m c
    | cons r a =>
      rw [ih (by simp)]
      exact fo_mi_s c
theorem fo_sh_hg {h h' : Nat → Int32} (a : List (Nat × Int32)) (e : ∀ x, x ∈ fo_ns a → h' x = h x) : fo_sh h' a = fo_sh h a := by
  induction a with
  | nil => rfl
  | cons q a ih =>
    show h' q.1 + fo_sh h' a = h q.1 + fo_sh h a
    rw [ih (fun x hx => e x (fo_mem_cons.mpr (Or.inr hx))), e q.1 (fo_mem_cons.mpr (Or.inl rfl))]
/-! what is known of a part of a piece -/
def fo_AG (a b c d : Int32) (h : Nat → Int32) (l : List (Nat × Int32)) : Prop := a = nI l.length ∧ b = fo_sm l ∧ c = fo_mn l ∧ d = fo_sm l + fo_sh h l
theorem fo_AG_app {a b c d a' b' c' d' : Int32} {h : Nat → Int32} {l l' : List (Nat × Int32)} (H : fo_AG a b c d h l) (H' : fo_AG a' b' c' d' h l') : fo_AG (a + a') (b + b') (fo_mi c c') (d + d') h (l ++ l') := by
  obtain ⟨e1, e2, e3, e4⟩ := H
  obtain ⟨f1, f2, f3, f4⟩ := H'
  refine ⟨?_, ?_, ?_, ?_⟩
  · rw [e1, f1, nI_add, List.length_append]
  · rw [e2, f2, fo_sm_app]
  · rw [e3, f3, fo_mn_app]
  · rw [e4, f4, fo_sm_app, fo_sh_app]
    generalize fo_sm l = p
    generalize fo_sm l' = q
    generalize fo_sh h l = r
    generalize fo_sh h l' = s
    grind
theorem fo_AG_swap {a b c d : Int32} {h : Nat → Int32} {l l' : List (Nat × Int32)} (H : fo_AG a b c d h (l ++ l')) : fo_AG a b c d h (l' ++ l) := by
  obtain ⟨e1, e2, e3, e4⟩ := H
  refine ⟨?_, ?_, ?_, ?_⟩
  · rw [e1, List.length_append, List.length_append, Nat.add_comm]
  · rw [e2, fo_sm_app, fo_sm_app, Int32.add_comm]
  · rw [e3, fo_mn_app, fo_mn_app, fo_mi_c]
  · rw [e4, fo_sm_app, fo_sm_app, fo_sh_app, fo_sh_app, Int32.add_comm (fo_sm l), Int32.add_comm (fo_sh h l)]
theorem fo_AG_rev {a b c d : Int32} {h : Nat → Int32} {l : List (Nat × Int32)} (H : fo_AG a b c d h l) : fo_AG a b c d h l.reverse := by
  obtain ⟨e1, e2, e3, e4⟩ := H
  refine ⟨?_, ?_, ?_, ?_⟩
  · rw [e1, List.length_reverse]
  · rw [e2, fo_sm_rev]
  · rw [e3, fo_mn_rev]
  · rw [e4, fo_sm_rev, fo_sh_rev]
theorem fo_AG_mp {a b c d : Int32} {h : Nat → Int32} {l : List (Nat × Int32)} (v : Int32) (hl : l ≠ []) (H : fo_AG a b c d h l) : fo_AG a (a * v) v (d + (a * v - b)) h (fo_mp v l) := by
  obtain ⟨e1, e2, e3, e4⟩ := H
  refine ⟨?_, ?_, ?_, ?_⟩
  · rw [e1, fo_mp_len]
  · rw [e1, fo_sm_mp]
  · rw [fo_mn_mp v l hl]
  · rw [e4, e1, e2, fo_sm_mp, fo_sh_mp]
    generalize fo_sm l = p
    generalize fo_sh h l = q
    generalize nI l.length * v = r
    grind
theorem fo_AG_hg {a b c d : Int32} {h h' : Nat → Int32} {l : List (Nat × Int32)} (e : ∀ x, x ∈ fo_ns l → h' x = h x) (H : fo_AG a b c d h l) : fo_AG a b c d h' l := by
  obtain ⟨e1, e2, e3, e4⟩ := H
  exact ⟨e1, e2, e3, by rw [fo_sh_hg l e]; exact e4⟩
theorem fo_AG_one (h : Nat → Int32) (n : Nat) (v : Int32) : fo_AG 1 v v (v + h n) h [(n, v)] := by
  refine ⟨rfl, ?_, ?_, ?_⟩
  · exact (Int32.add_zero v).symm
  · exact (fo_mi_m v).symm
  · show v + h n = v + 0 + (h n + 0)
    rw [Int32.add_zero, Int32.add_zero]
end
section
/-! the chain of a piece in the reference's parents -/
def fo_he (sb : Nat → Int32) (e : Int32) : List (Nat × Int32) → Int32
  | [] => e
  | q :: _ => sb q.1
def fo_la (a : Int32) : List (Nat × Int32) → Int32
  | [] => a
  | q :: l => fo_la (nI q.1) l
def fo_CS (pa va sb h : Nat → Int32) (e : Int32) : Int32 → List (Nat × Int32) → Prop
  | _, [] => True
  | a, q :: l => pa q.1 = a ∧ q.2 = va q.1 ∧ h q.1 + q.2 + fo_he sb e l = sb q.1 ∧ fo_CS pa va sb h e (nI q.1) l
theorem fo_he_app (sb : Nat → Int32) (e : Int32) (l m : List (Nat × Int32)) : fo_he sb e (l ++ m) = fo_he sb (fo_he sb e m) l := by
  cases l <;> rfl
theorem fo_la_app (a : Int32) (l m : List (Nat × Int32)) : fo_la a (l ++ m) = fo_la (fo_la a l) m := by
  induction l generalizing a with
  | nil => rfl
  | cons q l ih => exact ih (nI q.1)
theorem fo_CS_app {pa va sb h : Nat → Int32} {e : Int32} (l m : List (Nat × Int32)) (a : Int32) : fo_CS pa va sb h e a (l ++ m) ↔ fo_CS pa va sb h (fo_he sb e m) a l ∧ fo_CS pa va sb h e (fo_la a l) m := by
  induction l generalizing a with
  | nil => exact ⟨fun H => ⟨trivial, H⟩, fun H => H.2⟩
  | cons q l ih =>
    constructor
    · intro H
      obtain ⟨h1, h2, h3, h4⟩ := H
      obtain ⟨h5, h6⟩ := (ih (nI q.1)).mp h4
      refine ⟨⟨h1, h2, ?_, h5⟩, h6⟩
      rw [← fo_he_app]
      exact h3
    · intro H
      obtain ⟨⟨h1, h2, h3, h5⟩, h6⟩ := H
      refine ⟨h1, h2, ?_, (ih (nI q.1)).mpr ⟨h5, h6⟩⟩
      rw [← fo_he_app] at h3
      exact h3
theorem fo_CS_tel {pa va sb h : Nat → Int32} {e : Int32} (l : List (Nat × Int32)) (a : Int32) (H : fo_CS pa va sb h e a l) : fo_sm l + fo_sh h l + e = fo_he sb e l := by
  induction l generalizing a with
  | nil =>
    show (0 : Int32) + 0 + e = e
    rw [Int32.add_zero, Int32.zero_add]
  | cons q l ih =>
    obtain ⟨h1, h2, h3, h4⟩ := H
    have := ih _ h4
    show q.2 + fo_sm l + (h q.1 + fo_sh h l) + e = sb q.1
    rw [← h3, ← this]
    generalize fo_sm l = x
    generalize fo_sh h l = y
    grind
theorem fo_CS_shift {pa va sb h pa' va' sb' : Nat → Int32} {e : Int32} (d : Int32) (l : List (Nat × Int32)) (a : Int32) (hc : ∀ x, x ∈ fo_ns l → pa' x = pa x ∧ va' x = va x ∧ sb' x = sb x + d) (H : fo_CS pa va sb h e a l) : fo_CS pa' va' sb' h (e + d) a l := by
  induction l generalizing a with
  | nil => trivial
  | cons q l ih =>
    obtain ⟨h1, h2, h3, h4⟩ := H
    obtain ⟨c1, c2, c3⟩ := hc q.1 (fo_mem_cons.mpr (Or.inl rfl))
    have hc' : ∀ x, x ∈ fo_ns l → pa' x = pa x ∧ va' x = va x ∧ sb' x = sb x + d := fun x hx => hc x (fo_mem_cons.mpr (Or.inr hx))
    refine ⟨c1.trans h1, h2.trans c2.symm, ?_, ih _ hc' h4⟩
    have z : fo_he sb' (e + d) l = fo_he sb e l + d := by
      cases l with
      | nil => rfl
      | cons r l => exact (hc' r.1 (fo_mem_cons.mpr (Or.inl rfl))).2.2
    rw [z, c3, ← h3]
    exact (Int32.add_assoc _ _ _).symm
theorem fo_CS_congr {pa va sb h pa' va' sb' h' : Nat → Int32} {e : Int32} (l : List (Nat × Int32)) (a : Int32) (hc : ∀ x, x ∈ fo_ns l → pa' x = pa x ∧ va' x = va x ∧ sb' x = sb x ∧ h' x = h x) (H : fo_CS pa va sb h e a l) : fo_CS pa' va' sb' h' e a l := by
  induction l generalizing a with
  | nil => trivial
  | cons q l ih =>
    obtain ⟨h1, h2, h3, h4⟩ := H
    obtain ⟨c1, c2, c3, c4⟩ := hc q.1 (fo_mem_cons.mpr (Or.inl rfl))
    have hc' : ∀ x, x ∈ fo_ns l → pa' x = pa x ∧ va' x = va x ∧ sb' x = sb x ∧ h' x = h x := fun x hx => hc x (fo_mem_cons.mpr (Or.inr hx))
    refine ⟨c1.trans h1, h2.trans c2.symm, ?_, ih _ hc' h4⟩
    have z : fo_he sb' e l = fo_he sb e l := by
      cases l with
      | nil => rfl
      | cons r l => exact (hc' r.1 (fo_mem_cons.mpr (Or.inl rfl))).2.2.1
    rw [z, c3, c4, ← h3]
/-! ways to the root -/
def fo_PT (pa : Nat → Int32) : Int32 → List Nat → Prop
  | x, [] => x = -1
  | x, n :: l => x = nI n ∧ n < 24 ∧ fo_PT pa (pa n) l
def fo_YI (pa : Nat → Int32) (W : Nat → List Nat) : Prop := ∀ n, n < 24 → fo_PT pa (nI n) (W n)
theorem fo_PT_uniq {pa : Nat → Int32} : ∀ (l : List Nat) (x : Int32) (l' : List Nat), fo_PT pa x l → fo_PT pa x l' → l = l'
  | [], x, [], _, _ => rfl
  | [], x, n :: l', h, h' => absurd (h'.1.symm.trans h) (fo_m1 h'.2.1)
  | n :: l, x, [], h, h' => absurd (h.1.symm.trans h') (fo_m1 h.2.1)
  | n :: l, x, m :: l', h, h' => by
    have e : n = m := fo_ij h.2.1 h'.2.1 (h.1.symm.trans h'.1)
    subst e
    rw [fo_PT_uniq l (pa n) l' h.2.2 h'.2.2]
theorem fo_PT_lt {pa : Nat → Int32} : ∀ (l : List Nat) (x : Int32), fo_PT pa x l → ∀ m, m ∈ l → m < 24
  | [], _, _, _, hm => nomatch hm
  | n :: l, x, h, m, hm => by
    rcases List.mem_cons.mp hm with e | e
    · rw [e]; exact h.2.1
    · exact fo_PT_lt l (pa n) h.2.2 m e
theorem fo_PT_W {pa : Nat → Int32} {W : Nat → List Nat} (Y : fo_YI pa W) {x : Int32} {l : List Nat} (h : fo_PT pa x l) : (x = -1 ∧ l = []) ∨ ∃ m, m < 24 ∧ x = nI m ∧ l = W m := by
  cases l with
  | nil => exact Or.inl ⟨h, rfl⟩
  | cons m l =>
    have e := h.1
    subst e
    exact Or.inr ⟨m, h.2.1, rfl, fo_PT_uniq _ _ _ h (Y m h.2.1)⟩
theorem fo_W_pa {pa : Nat → Int32} {W : Nat → List Nat} (Y : fo_YI pa W) {n : Nat} (hn : n < 24) : (pa n = -1 ∧ W n = [n]) ∨ ∃ p, p < 24 ∧ pa n = nI p ∧ W n = n :: W p := by
  have h := Y n hn
  cases hw : W n with
  | nil =>
    rw [hw] at h
    exact absurd h (fo_m1 hn)
  | cons m l =>
    rw [hw] at h
    have e : n = m := fo_ij hn h.2.1 h.1
    subst e
    rcases fo_PT_W Y h.2.2 with ⟨h1, h2⟩ | ⟨p, h1, h2, h3⟩
    · exact Or.inl ⟨h1, by rw [h2]⟩
    · exact Or.inr ⟨p, h1, h2, by rw [h3]⟩
theorem fo_W_self {pa : Nat → Int32} {W : Nat → List Nat} (Y : fo_YI pa W) {n : Nat} (hn : n < 24) : n ∈ W n := by
  rcases fo_W_pa Y hn with ⟨_, h⟩ | ⟨p, _, _, h⟩
  · rw [h]; exact List.mem_cons_self
  · rw [h]; exact List.mem_cons_self
theorem fo_W_lt {pa : Nat → Int32} {W : Nat → List Nat} (Y : fo_YI pa W) {n m : Nat} (hn : n < 24) (h : m ∈ W n) : m < 24 := fo_PT_lt _ _ (Y n hn) m h
theorem fo_PT_suf {pa : Nat → Int32} {W : Nat → List Nat} (Y : fo_YI pa W) : ∀ (l : List Nat) (x : Int32), fo_PT pa x l → ∀ m, m ∈ l → ∃ pre, l = pre ++ W m
  | [], _, _, _, hm => nomatch hm
  | n :: l, x, h, m, hm => by
    rcases List.mem_cons.mp hm with e | e
    · subst e
      have hx := h.1
      subst hx
      exact ⟨[], fo_PT_uniq _ _ _ h (Y m h.2.1)⟩
    · obtain ⟨pre, hp⟩ := fo_PT_suf Y l (pa n) h.2.2 m e
      exact ⟨n :: pre, by rw [hp]; rfl⟩
theorem fo_W_suf {pa : Nat → Int32} {W : Nat → List Nat} (Y : fo_YI pa W) {n m : Nat} (hn : n < 24) (h : m ∈ W n) : ∃ pre, W n = pre ++ W m := fo_PT_suf Y _ _ (Y n hn) m h
theorem fo_W_tr {pa : Nat → Int32} {W : Nat → List Nat} (Y : fo_YI pa W) {n m x : Nat} (hn : n < 24) (h : m ∈ W n) (hx : x ∈ W m) : x ∈ W n := by
  obtain ⟨pre, hp⟩ := fo_W_suf Y hn h
  rw [hp]
  exact List.mem_append_right _ hx
theorem fo_PT_nd {pa : Nat → Int32} {W : Nat → List Nat} (Y : fo_YI pa W) : ∀ (l : List Nat) (x : Int32), fo_PT pa x l → l.Nodup
  | [], _, _ => List.nodup_nil
  | n :: l, x, h => by
    refine List.nodup_cons.mpr ⟨fun hm => ?_, fo_PT_nd Y l (pa n) h.2.2⟩
    obtain ⟨pre, hp⟩ := fo_PT_suf Y l (pa n) h.2.2 n hm
    have hx := h.1
    subst hx
    have e := fo_PT_uniq _ _ _ h (Y n h.2.1)
    rw [← e] at hp
    have := congrArg List.length hp
    rw [List.length_append, List.length_cons] at this
    omega
theorem fo_nd24 {l : List Nat} (h : l.Nodup) (hl : ∀ x, x ∈ l → x < 24) : l.length ≤ 24 := by
  have := h.length_le_of_subset (l₂ := List.range 24) (fun x hx => List.mem_range.mpr (hl x hx))
  rw [List.length_range] at this
  exact this
theorem fo_W_len {pa : Nat → Int32} {W : Nat → List Nat} (Y : fo_YI pa W) {n : Nat} (hn : n < 24) : (W n).length ≤ 24 := fo_nd24 (fo_PT_nd Y _ _ (Y n hn)) (fun _ hx => fo_W_lt Y hn hx)
theorem fo_W_pos {pa : Nat → Int32} {W : Nat → List Nat} (Y : fo_YI pa W) {n : Nat} (hn : n < 24) : 0 < (W n).length := List.length_pos_of_mem (fo_W_self Y hn)
theorem fo_W_up {pa : Nat → Int32} {W : Nat → List Nat} (Y : fo_YI pa W) {n p : Nat} (hn : n < 24) (hp : p < 24) (h : pa n = nI p) : W n = n :: W p := by
  rcases fo_W_pa Y hn with ⟨h1, _⟩ | ⟨q, hq, h1, h2⟩
  · exact absurd (h.symm.trans h1) (fo_m1 hp)
  · have e := fo_ij hp hq (h.symm.trans h1)
    subst e
    exact h2
theorem fo_W_root {pa : Nat → Int32} {W : Nat → List Nat} (Y : fo_YI pa W) {n : Nat} (hn : n < 24) (h : pa n = -1) : W n = [n] := by
  rcases fo_W_pa Y hn with ⟨_, h2⟩ | ⟨q, hq, h1, h2⟩
  · exact h2
  · exact absurd (h1.symm.trans h) (fo_m1 hq)
theorem fo_PT_cmp {pa : Nat → Int32} {W : Nat → List Nat} (Y : fo_YI pa W) : ∀ (l : List Nat) (z : Int32), fo_PT pa z l → ∀ x y, x ∈ l → y ∈ l → x ∈ W y ∨ y ∈ W x
  | [], _, _, _, _, hm, _ => nomatch hm
  | n :: l, z, h, x, y, hx, hy => by
    have hz := h.1
    subst hz
    have e := fo_PT_uniq _ _ _ h (Y n h.2.1)
    rcases List.mem_cons.mp hx with e1 | e1
    · subst e1
      rw [e] at hy
      exact Or.inr hy
    · rcases List.mem_cons.mp hy with e2 | e2
      · subst e2
        rw [e] at hx
        exact Or.inl hx
      · exact fo_PT_cmp Y l (pa n) h.2.2 x y e1 e2
theorem fo_W_cmp {pa : Nat → Int32} {W : Nat → List Nat} (Y : fo_YI pa W) {n x y : Nat} (hn : n < 24) (hx : x ∈ W n) (hy : y ∈ W n) : x ∈ W y ∨ y ∈ W x := fo_PT_cmp Y _ _ (Y n hn) x y hx hy
theorem fo_W_le {pa : Nat → Int32} {W : Nat → List Nat} (Y : fo_YI pa W) {n m : Nat} (hn : n < 24) (h : m ∈ W n) : (W m).length ≤ (W n).length := by
  obtain ⟨pre, hp⟩ := fo_W_suf Y hn h
  rw [hp, List.length_append]
  omega
theorem fo_W_anti {pa : Nat → Int32} {W : Nat → List Nat} (Y : fo_YI pa W) {n m : Nat} (hn : n < 24) (h : m ∈ W n) (h2 : n ∈ W m) : n = m := by
  have hm := fo_W_lt Y hn h
  obtain ⟨pre, hp⟩ := fo_W_suf Y hn h
  have h3 := fo_W_le Y hm h2
  rw [hp, List.length_append] at h3
  have h4 : pre = [] := List.eq_nil_of_length_eq_zero (by omega)
  rw [h4, List.nil_append] at hp
  rcases fo_W_pa Y hn with ⟨_, a⟩ | ⟨p, _, _, a⟩ <;> rcases fo_W_pa Y hm with ⟨_, b⟩ | ⟨q, _, _, b⟩ <;> rw [a, b] at hp <;> exact (List.cons.inj hp).1
/-- a chain is a way, read backwards -/
theorem fo_CS_PT {pa va sb h : Nat → Int32} {e : Int32} (l : List (Nat × Int32)) (a : Int32) (w : List Nat) (H : fo_CS pa va sb h e a l) (hl : ∀ x, x ∈ fo_ns l → x < 24) (hw : fo_PT pa a w) : fo_PT pa (fo_la a l) ((fo_ns l).reverse ++ w) := by
  induction l generalizing a w with
  | nil => exact hw
  | cons q l ih =>
    obtain ⟨h1, h2, h3, h4⟩ := H
    have := ih (nI q.1) (q.1 :: w) h4 (fun x hx => hl x (fo_mem_cons.mpr (Or.inr hx))) ⟨rfl, hl q.1 (fo_mem_cons.mpr (Or.inl rfl)), by rw [h1]; exact hw⟩
    rw [fo_ns_cons, List.reverse_cons, List.append_assoc]
    exact this
theorem fo_CS_rank {pa va sb h : Nat → Int32} {e : Int32} {W : Nat → List Nat} (Y : fo_YI pa W) (l : List (Nat × Int32)) (y : Nat) (hy : y < 24) (H : fo_CS pa va sb h e (nI y) l) (hl : ∀ x, x ∈ fo_ns l → x < 24) : ∀ x, x ∈ fo_ns l → (W y).length < (W x).length := by
  induction l generalizing y with
  | nil => exact fun x hx => nomatch hx
  | cons q l ih =>
    intro x hx
    obtain ⟨h1, h2, h3, h4⟩ := H
    have hq := hl q.1 (fo_mem_cons.mpr (Or.inl rfl))
    have e1 := congrArg List.length (fo_W_up Y hq hy h1)
    rw [List.length_cons] at e1
    rcases fo_mem_cons.mp hx with e2 | e2
    · rw [e2]; omega
    · have := ih q.1 hq h4 (fun x hx => hl x (fo_mem_cons.mpr (Or.inr hx))) x e2
      omega
theorem fo_CS_nd {pa va sb h : Nat → Int32} {e : Int32} {W : Nat → List Nat} (Y : fo_YI pa W) (l : List (Nat × Int32)) (a : Int32) (H : fo_CS pa va sb h e a l) (hl : ∀ x, x ∈ fo_ns l → x < 24) : (fo_ns l).Nodup := by
  induction l generalizing a with
  | nil => exact List.nodup_nil
  | cons q l ih =>
    obtain ⟨h1, h2, h3, h4⟩ := H
    have hq := hl q.1 (fo_mem_cons.mpr (Or.inl rfl))
    have hl' : ∀ x, x ∈ fo_ns l → x < 24 := fun x hx => hl x (fo_mem_cons.mpr (Or.inr hx))
    rw [fo_ns_cons]
    refine List.nodup_cons.mpr ⟨fun hm => ?_, ih _ h4 hl'⟩
    have := fo_CS_rank Y l q.1 hq h4 hl' q.1 hm
    omega
/-! sums over all nodes -/
def fo_S (f : Nat → Int32) : Nat → Int32
  | 0 => 0
  | k + 1 => fo_S f k + f k
theorem fo_S_congr {f g : Nat → Int32} (k : Nat) (h : ∀ m, m < k → f m = g m) : fo_S f k = fo_S g k := by
  induction k with
  | zero => rfl
  | succ k ih =>
    show fo_S f k + f k = fo_S g k + g k
    rw [ih (fun m hm => h m (by omega)), h k (by omega)]
theorem fo_S_add (f g : Nat → Int32) (k : Nat) : fo_S (fun m => f m + g m) k = fo_S f k + fo_S g k := by
  induction k with
  | zero => rfl
  | succ k ih =>
    show fo_S (fun m => f m + g m) k + (f k + g k) = fo_S f k + f k + (fo_S g k + g k)
    rw [ih]
    generalize fo_S f k = x
    generalize fo_S g k = y
    grind
theorem fo_S_zero (k : Nat) : fo_S (fun _ => 0) k = 0 := by
  induction k with
  | zero => rfl
  | succ k ih =>
    show fo_S (fun _ => 0) k + 0 = 0
    rw [ih, Int32.add_zero]
theorem fo_S_one (n : Nat) (d : Int32) (k : Nat) : fo_S (fun m => if m = n then d else 0) k = if n < k then d else 0 := by
  induction k with
  | zero => rfl
  | succ k ih =>
    show fo_S (fun m => if m = n then d else 0) k + (if k = n then d else 0) = _
    rw [ih]
    by_cases h1 : n < k
    · rw [if_pos h1, if_neg (by omega), if_pos (by omega), Int32.add_zero]
    · by_cases h2 : k = n
      · rw [if_neg h1, if_pos h2, if_pos (by omega), Int32.zero_add]
      · rw [if_neg h1, if_neg h2, if_neg (by omega), Int32.add_zero]
def fo_sb (W : Nat → List Nat) (va : Nat → Int32) (x : Nat) : Int32 := fo_S (fun m => if x ∈ W m then va m else 0) 24
theorem fo_sb_set (W : Nat → List Nat) (va : Nat → Int32) {n : Nat} (hn : n < 24) (v : Int32) (x : Nat) : fo_sb W (upd va n v) x = fo_sb W va x + (if x ∈ W n then v - va n else 0) := by
  unfold fo_sb
  have e : fo_S (fun m => if m = n then (if x ∈ W n then v - va n else 0) else 0) 24 = if x ∈ W n then v - va n else 0 := by
    rw [fo_S_one, if_pos hn]
  rw [← e, ← fo_S_add]
  refine fo_S_congr 24 fun m _ => ?_
  show (if x ∈ W m then upd va n v m else 0) = (if x ∈ W m then va m else 0) + (if m = n then (if x ∈ W n then v - va n else 0) else 0)
  by_cases h : m = n
  · subst h
    rw [fo_us, if_pos rfl]
    by_cases h2 : x ∈ W m
    · rw [if_pos h2, if_pos h2, if_pos h2]
      grind
    · rw [if_neg h2, if_neg h2, if_neg h2]
      rfl
  · rw [fo_un h, if_neg h, Int32.add_zero]
theorem fo_sb_gen {W W' : Nat → List Nat} {va : Nat → Int32} {x c : Nat} {q : List Nat} (h : ∀ m, m < 24 → (x ∈ W' m ↔ x ∈ W m ∨ (x ∈ q ∧ c ∈ W m)) ∧ ¬ (x ∈ W m ∧ x ∈ q ∧ c ∈ W m)) : fo_sb W' va x = fo_sb W va x + (if x ∈ q then fo_sb W va c else 0) := by
  have e : (if x ∈ q then fo_sb W va c else 0) = fo_S (fun m => if x ∈ q ∧ c ∈ W m then va m else 0) 24 := by
    by_cases p : x ∈ q
    · rw [if_pos p]
      exact fo_S_congr 24 fun m _ => by simp only [p, true_and]
    · rw [if_neg p]
      refine (fo_S_zero 24).symm.trans (fo_S_congr 24 fun m _ => ?_)
      rw [if_neg (fun z => p z.1)]
  rw [e]
  unfold fo_sb
  rw [← fo_S_add]
  refine fo_S_congr 24 fun m hm => ?_
  obtain ⟨h1, h2⟩ := h m hm
  show (if x ∈ W' m then va m else 0) = (if x ∈ W m then va m else 0) + (if x ∈ q ∧ c ∈ W m then va m else 0)
  by_cases a : x ∈ W m
  · rw [if_pos (h1.mpr (Or.inl a)), if_pos a, if_neg (fun z => h2 ⟨a, z⟩), Int32.add_zero]
  · by_cases b : x ∈ q ∧ c ∈ W m
    · rw [if_pos (h1.mpr (Or.inr b)), if_neg a, if_pos b, Int32.zero_add]
    · rw [if_neg (fun z => (h1.mp z).elim a b), if_neg a, if_neg b, Int32.add_zero]
end
section
/-! how the ways and the sums change -/
theorem fo_he_congr {sb sb' : Nat → Int32} {e : Int32} (l : List (Nat × Int32)) (h : ∀ x, x ∈ fo_ns l → sb' x = sb x) : fo_he sb' e l = fo_he sb e l := by
  cases l with
  | nil => rfl
  | cons q l => exact h q.1 (fo_mem_cons.mpr (Or.inl rfl))
theorem fo_PT_congr {pa pa' : Nat → Int32} : ∀ (l : List Nat) (x : Int32), (∀ m, m ∈ l → pa' m = pa m) → fo_PT pa x l → fo_PT pa' x l
  | [], _, _, h => h
  | n :: l, x, e, h => ⟨h.1, h.2.1, by rw [e n List.mem_cons_self]; exact fo_PT_congr l (pa n) (fun m hm => e m (List.mem_cons_of_mem _ hm)) h.2.2⟩
theorem fo_PT_link {pa : Nat → Int32} {c p : Nat} (hc : pa c = -1) (w : List Nat) (hw : fo_PT (upd pa c (nI p)) (nI p) w) : ∀ (l : List Nat) (x : Int32), c ∈ l → fo_PT pa x l → fo_PT (upd pa c (nI p)) x (l ++ w)
  | [], _, h, _ => nomatch h
  | n :: l, x, hm, h => by
    by_cases e : n = c
    · subst e
      have h2 := h.2.2
      rw [hc] at h2
      have h3 : l = [] := by
        cases l with
        | nil => rfl
        | cons m l => exact absurd h2.1.symm (fo_m1 h2.2.1)
      subst h3
      refine ⟨h.1, h.2.1, ?_⟩
      rw [fo_us]
      exact hw
    · have hm2 : c ∈ l := by
        rcases List.mem_cons.mp hm with z | z
        · exact absurd z.symm e
        · exact z
      refine ⟨h.1, h.2.1, ?_⟩
      rw [fo_un e]
      exact fo_PT_link hc w hw l (pa n) hm2 h.2.2
theorem fo_law_link {pa : Nat → Int32} {W : Nat → List Nat} (Y : fo_YI pa W) {c p : Nat} (hc : c < 24) (hp : p < 24) (hr : pa c = -1) (hn : ¬ c ∈ W p) : ∃ W', fo_YI (upd pa c (nI p)) W' ∧ ∀ va x, fo_sb W' va x = fo_sb W va x + (if x ∈ W p then fo_sb W va c else 0) := by
  have hpw : fo_PT (upd pa c (nI p)) (nI p) (W p) := fo_PT_congr _ _ (fun m hm => fo_un (fun e => hn (by rw [← e]; exact hm))) (Y p hp)
  refine ⟨fun m => if c ∈ W m then W m ++ W p else W m, fun m hm => ?_, fun va x => ?_⟩
  · show fo_PT _ _ (if c ∈ W m then W m ++ W p else W m)
    by_cases h : c ∈ W m
    · rw [if_pos h]
      exact fo_PT_link hr _ hpw _ _ h (Y m hm)
    · rw [if_neg h]
      exact fo_PT_congr _ _ (fun k hk => fo_un (fun e => h (by rw [← e]; exact hk))) (Y m hm)
  · refine fo_sb_gen fun m hm => ⟨?_, ?_⟩
    · show x ∈ (if c ∈ W m then W m ++ W p else W m) ↔ _
      by_cases h : c ∈ W m
      · rw [if_pos h, List.mem_append]
        simp only [h, and_true]
      · rw [if_neg h]
        simp only [h, and_false, or_false]
    · intro ⟨h1, h2, h3⟩
      rcases fo_W_cmp Y hm h1 h3 with h4 | h4
      · rw [fo_W_root Y hc hr, List.mem_singleton] at h4
        rw [h4] at h2
        exact hn h2
      · exact hn (fo_W_tr Y hp h2 h4)
def fo_cu (n : Nat) : List Nat → List Nat
  | [] => []
  | x :: l => if x = n then [x] else x :: fo_cu n l
theorem fo_cu_no {n : Nat} : ∀ l : List Nat, ¬ n ∈ l → fo_cu n l = l
  | [], _ => rfl
  | x :: l, h => by
    show (if x = n then [x] else x :: fo_cu n l) = x :: l
    rw [if_neg (fun e => h (by rw [e]; exact List.mem_cons_self)), fo_cu_no l (fun z => h (List.mem_cons_of_mem _ z))]
theorem fo_cu_PT {pa : Nat → Int32} {n : Nat} : ∀ (l : List Nat) (x : Int32), fo_PT pa x l → fo_PT (upd pa n (-1)) x (fo_cu n l)
  | [], _, h => h
  | m :: l, x, h => by
    show fo_PT _ x (if m = n then [m] else m :: fo_cu n l)
    by_cases e : m = n
    · rw [if_pos e]
      refine ⟨h.1, h.2.1, ?_⟩
      rw [e, fo_us]
      rfl
    · rw [if_neg e]
      refine ⟨h.1, h.2.1, ?_⟩
      rw [fo_un e]
      exact fo_cu_PT l (pa m) h.2.2
theorem fo_cu_sp {pa : Nat → Int32} {W : Nat → List Nat} (Y : fo_YI pa W) {n p : Nat} (hn : n < 24) (hp : p < 24) (h : pa n = nI p) : ∀ (l : List Nat) (x : Int32), fo_PT pa x l → n ∈ l → l = fo_cu n l ++ W p
  | [], _, _, hm => nomatch hm
  | m :: l, x, hl, hm => by
    show m :: l = (if m = n then [m] else m :: fo_cu n l) ++ W p
    by_cases e : m = n
    · subst e
      rw [if_pos rfl]
      have hx := hl.1
      subst hx
      have := fo_PT_uniq _ _ _ hl (Y m hn)
      rw [fo_W_up Y hn hp h] at this
      exact this
    · rw [if_neg e]
      have hm2 : n ∈ l := by
        rcases List.mem_cons.mp hm with z | z
        · exact absurd z.symm e
        · exact z
      have := fo_cu_sp Y hn hp h l (pa m) hl.2.2 hm2
      exact congrArg (List.cons m) this
theorem fo_law_cut {pa : Nat → Int32} {W : Nat → List Nat} (Y : fo_YI pa W) {n p : Nat} (hn : n < 24) (hp : p < 24) (h : pa n = nI p) : ∃ W', fo_YI (upd pa n (-1)) W' ∧ ∀ va x, fo_sb W va x = fo_sb W' va x + (if x ∈ W p then fo_sb W va n else 0) := by
  have hmem : ∀ m, m < 24 → (n ∈ fo_cu n (W m) ↔ n ∈ W m) := by
    intro m hm
    by_cases z : n ∈ W m
    · refine ⟨fun _ => z, fun _ => ?_⟩
      have e := fo_cu_sp Y hn hp h (W m) _ (Y m hm) z
      rw [e] at z
      rcases List.mem_append.mp z with a | a
      · exact a
      · exfalso
        have l1 := fo_W_le Y hp a
        rw [fo_W_up Y hn hp h, List.length_cons] at l1
        omega
    · rw [fo_cu_no _ z]
  refine ⟨fun m => fo_cu n (W m), fun m hm => fo_cu_PT _ _ (Y m hm), fun va x => ?_⟩
  have e2 : fo_sb (fun m => fo_cu n (W m)) va n = fo_sb W va n := by
    unfold fo_sb
    refine fo_S_congr 24 fun m hm => ?_
    show (if n ∈ fo_cu n (W m) then va m else 0) = _
    by_cases z : n ∈ W m
    · rw [if_pos ((hmem m hm).mpr z), if_pos z]
    · rw [if_neg (fun q => z ((hmem m hm).mp q)), if_neg z]
  rw [← e2]
  refine fo_sb_gen fun m hm => ?_
  show (x ∈ W m ↔ x ∈ fo_cu n (W m) ∨ (x ∈ W p ∧ n ∈ fo_cu n (W m))) ∧ ¬ (x ∈ fo_cu n (W m) ∧ x ∈ W p ∧ n ∈ fo_cu n (W m))
  rw [hmem m hm]
  by_cases z : n ∈ W m
  · have e := fo_cu_sp Y hn hp h (W m) _ (Y m hm) z
    have nd := fo_PT_nd Y _ _ (Y m hm)
    constructor
    · simp only [z, and_true]
      rw [← List.mem_append, ← e]
    · intro ⟨a, b, _⟩
      rw [e] at nd
      exact (List.nodup_append.mp nd).2.2 x a x b rfl
  · rw [fo_cu_no _ z]
    simp only [z, and_false, or_false, not_false_eq_true, and_self, iff_self]
theorem fo_law_flip {pa : Nat → Int32} {W : Nat → List Nat} (Y : fo_YI pa W) {r c : Nat} (hr : r < 24) (hc : c < 24) (h0 : pa r = -1) (h1 : pa c = nI r) : ∃ W', fo_YI (upd (upd pa c (-1)) r (nI c)) W' ∧ ∀ va, fo_sb W' va r = fo_sb W va r - fo_sb W va c ∧ fo_sb W' va c = fo_sb W va r ∧ ∀ x, x ≠ r → x ≠ c → fo_sb W' va x = fo_sb W va x := by
  have hrc : r ≠ c := fun e => by
    subst e
    exact fo_m1 hr (h1.symm.trans h0)
  obtain ⟨W1, Y1, s1⟩ := fo_law_cut Y hc hr h1
  have p1r : upd pa c (-1) r = -1 := by rw [fo_un hrc]; exact h0
  have p1c : upd pa c (-1) c = -1 := fo_us
  have w1c := fo_W_root Y1 hc p1c
  have wr := fo_W_root Y hr h0
  obtain ⟨W2, Y2, s2⟩ := fo_law_link Y1 hr hc p1r (by rw [w1c, List.mem_singleton]; exact hrc)
  refine ⟨W2, Y2, fun va => ?_⟩
  have a1 := s1 va r
  rw [wr, if_pos (List.mem_singleton.mpr rfl)] at a1
  have a2 := s1 va c
  rw [wr, if_neg (fun z => hrc (List.mem_singleton.mp z).symm), Int32.add_zero] at a2
  have b1 := s2 va r
  rw [w1c, if_neg (fun z => hrc (List.mem_singleton.mp z)), Int32.add_zero] at b1
  have b2 := s2 va c
  rw [w1c, if_pos (List.mem_singleton.mpr rfl)] at b2
  refine ⟨?_, ?_, fun x x1 x2 => ?_⟩
  · rw [b1]
    grind
  · rw [b2]
    grind
  · have a3 := s1 va x
    rw [wr, if_neg (fun z => x1 (List.mem_singleton.mp z)), Int32.add_zero] at a3
    have b3 := s2 va x
    rw [w1c, if_neg (fun z => x2 (List.mem_singleton.mp z)), Int32.add_zero] at b3
    rw [b3, a3]
/-- turning a way round: R is what has been turned, (x, v) the root, l what is left -/
theorem fo_law_turn {va h : Nat → Int32} : ∀ (l : List (Nat × Int32)) (pa : Nat → Int32) (W : Nat → List Nat) (x : Nat) (v : Int32) (R : List (Nat × Int32)), fo_YI pa W → x < 24 → (∀ z, z ∈ fo_ns l → z < 24) → (fo_ns (R.reverse ++ (x, v) :: l)).Nodup → pa x = -1 → v = va x → h x + v + fo_he (fo_sb W va) 0 l + fo_he (fo_sb W va) 0 R = fo_sb W va x → fo_CS pa va (fo_sb W va) h 0 (nI x) l → fo_CS pa va (fo_sb W va) h 0 (nI x) R →
    ∃ pa' W', fo_YI pa' W' ∧ fo_CS pa' va (fo_sb W' va) h 0 (-1) (l.reverse ++ (x, v) :: R) ∧ (∀ z, ¬ z ∈ fo_ns ((x, v) :: l) → pa' z = pa z) ∧ (∀ z, ¬ z ∈ fo_ns (R.reverse ++ (x, v) :: l) → fo_sb W' va z = fo_sb W va z)
  | [], pa, W, x, v, R, Y, hx, _, _, h0, hv, hs, _, hR => by
    refine ⟨pa, W, Y, ⟨h0, hv, ?_, hR⟩, fun _ _ => rfl, fun _ _ => rfl⟩
    rw [← hs]
    show h x + v + fo_he (fo_sb W va) 0 R = h x + v + 0 + fo_he (fo_sb W va) 0 R
    rw [Int32.add_zero]
  | (y, w) :: l, pa, W, x, v, R, Y, hx, hl, hnd, h0, hv, hs, hC, hR => by
    obtain ⟨c1, c2, c3, c4⟩ := hC
    have hy : y < 24 := hl y (fo_mem_cons.mpr (Or.inl rfl))
    obtain ⟨W1, Y1, s1⟩ := fo_law_flip Y hx hy h0 c1
    obtain ⟨s1, s2, s3⟩ := s1 va
    have nd2 := hnd
    rw [fo_ns_app, fo_ns_rev, fo_ns_cons, fo_ns_cons, List.nodup_append, List.nodup_cons, List.nodup_cons] at nd2
    obtain ⟨n1, ⟨n2, n3, n4⟩, n5⟩ := nd2
    have xy : x ≠ y := fun e => n2 (by rw [e]; exact List.mem_cons_self)
    have xl : ¬ x ∈ fo_ns l := fun z => n2 (List.mem_cons_of_mem _ z)
    have yl : ¬ y ∈ fo_ns l := n3
    have xR : ¬ x ∈ fo_ns R := fun z => n5 x (List.mem_reverse.mpr z) x List.mem_cons_self rfl
    have yR : ¬ y ∈ fo_ns R := fun z => n5 y (List.mem_reverse.mpr z) y (List.mem_cons_of_mem _ List.mem_cons_self) rfl
    have key : ∀ m : List (Nat × Int32), ¬ x ∈ fo_ns m → ¬ y ∈ fo_ns m → ∀ a, fo_CS pa va (fo_sb W va) h 0 a m → fo_CS (upd (upd pa y (-1)) x (nI y)) va (fo_sb W1 va) h 0 a m := by
      intro m m1 m2 a H
      refine fo_CS_congr m a (fun z hz => ?_) H
      have z1 : z ≠ x := fun e => m1 (by rw [← e]; exact hz)
      have z2 : z ≠ y := fun e => m2 (by rw [← e]; exact hz)
      exact ⟨by rw [fo_un z1, fo_un z2], rfl, s3 z z1 z2, rfl⟩
    have hek : ∀ m : List (Nat × Int32), ¬ x ∈ fo_ns m → ¬ y ∈ fo_ns m → fo_he (fo_sb W1 va) 0 m = fo_he (fo_sb W va) 0 m := by
      intro m m1 m2
      exact fo_he_congr m fun z hz => s3 z (fun e => m1 (by rw [← e]; exact hz)) (fun e => m2 (by rw [← e]; exact hz))
    have c3' : h y + w + fo_he (fo_sb W va) 0 l = fo_sb W va y := c3
    have hs' : h x + v + fo_sb W va y + fo_he (fo_sb W va) 0 R = fo_sb W va x := hs
    obtain ⟨pa', W', Y', hC', hp', hb'⟩ := fo_law_turn l (upd (upd pa y (-1)) x (nI y)) W1 y w ((x, v) :: R) Y1 hy (fun z hz => hl z (fo_mem_cons.mpr (Or.inr hz)))
      (by rw [List.reverse_cons, List.append_assoc]; exact hnd)
      (by rw [fo_un (Ne.symm xy), fo_us]) c2
      (by
        rw [hek l xl yl]
        show h y + w + fo_he (fo_sb W va) 0 l + fo_sb W1 va x = fo_sb W1 va y
        rw [c3', s1, s2]
        grind)
      (key l xl yl _ c4)
      (by
        refine ⟨fo_us, hv, ?_, key R xR yR _ hR⟩
        rw [hek R xR yR]
        show h x + v + fo_he (fo_sb W va) 0 R = fo_sb W1 va x
        rw [s1, ← hs']
        grind)
    refine ⟨pa', W', Y', ?_, fun z hz => ?_, fun z hz => ?_⟩
    · rw [List.reverse_cons, List.append_assoc]
      exact hC'
    · have z1 : z ≠ x := fun e => hz (fo_mem_cons.mpr (Or.inl e))
      have z2 : ¬ z ∈ fo_ns ((y, w) :: l) := fun e => hz (fo_mem_cons.mpr (Or.inr e))
      have z3 : z ≠ y := fun e => z2 (fo_mem_cons.mpr (Or.inl e))
      rw [hp' z z2, fo_un z1, fo_un z3]
    · have z1 : z ≠ x := fun e => hz (fo_mem_app.mpr (Or.inr (fo_mem_cons.mpr (Or.inl e))))
      have z3 : z ≠ y := fun e => hz (fo_mem_app.mpr (Or.inr (fo_mem_cons.mpr (Or.inr (fo_mem_cons.mpr (Or.inl e))))))
      rw [hb' z (by rw [List.reverse_cons, List.append_assoc]; exact hz), s3 z z1 z3]
/-- the nodes of a chain from the root are the way of its last node -/
theorem fo_CS_W {pa va sb h : Nat → Int32} {W : Nat → List Nat} {e : Int32} (Y : fo_YI pa W) (A : List (Nat × Int32)) (x : Nat) (w : Int32) (H : fo_CS pa va sb h e (-1) (A ++ [(x, w)])) (hl : ∀ z, z ∈ fo_ns (A ++ [(x, w)]) → z < 24) : W x = (fo_ns (A ++ [(x, w)])).reverse := by
  have h1 := fo_CS_PT _ _ [] H hl rfl
  rw [fo_la_app, List.append_nil] at h1
  have hx : x < 24 := hl x (fo_mem_app.mpr (Or.inr (fo_mem_cons.mpr (Or.inl rfl))))
  exact fo_PT_uniq _ _ _ (Y x hx) h1
theorem fo_law_paint {pa h : Nat → Int32} {W : Nat → List Nat} (Y : fo_YI pa W) (v : Int32) : ∀ (ra : List (Nat × Int32)) (va : Nat → Int32) (B : List (Nat × Int32)), (∀ z, z ∈ fo_ns (ra.reverse ++ B) → z < 24) → fo_CS pa va (fo_sb W va) h 0 (-1) (ra.reverse ++ B) →
    ∃ va', (∀ z, va' z = if z ∈ fo_ns ra then v else va z) ∧ fo_CS pa va' (fo_sb W va') h 0 (-1) ((fo_mp v ra).reverse ++ B) ∧ ∀ z, ¬ z ∈ fo_ns (ra.reverse ++ B) → fo_sb W va' z = fo_sb W va z
  | [], va, B, hl, H => ⟨va, fun z => (if_neg fo_mem_nil).symm, H, fun _ _ => rfl⟩
  | (x, w) :: ra, va, B, hl, H => by
    rw [List.reverse_cons, List.append_assoc] at hl H
    have nd := fo_CS_nd Y _ _ H hl
    have H1 := (fo_CS_app _ _ _).mp H
    obtain ⟨H2, H3⟩ := H1
    have H4 := (fo_CS_app [(x, w)] B _).mp H3
    obtain ⟨⟨k1, k2, k3, _⟩, H5⟩ := H4
    have hx : x < 24 := hl x (fo_mem_app.mpr (Or.inr (fo_mem_cons.mpr (Or.inl rfl))))
    have H6 : fo_CS pa va (fo_sb W va) h (fo_he (fo_sb W va) 0 B) (-1) (ra.reverse ++ [(x, w)]) := (fo_CS_app _ _ _).mpr ⟨H2, ⟨k1, k2, k3, trivial⟩⟩
    have hl6 : ∀ z, z ∈ fo_ns (ra.reverse ++ [(x, w)]) → z < 24 := by
      intro z hz
      apply hl z
      rcases fo_mem_app.mp hz with a | a
      · exact fo_mem_app.mpr (Or.inl a)
      · rcases fo_mem_cons.mp a with b | b
        · exact fo_mem_app.mpr (Or.inr (fo_mem_cons.mpr (Or.inl b)))
        · exact absurd b fo_mem_nil
    have hW := fo_CS_W Y _ _ _ H6 hl6
    have hWm : ∀ z, z ∈ W x ↔ z ∈ fo_ns ra.reverse ∨ z = x := by
      intro z
      rw [hW, List.mem_reverse, fo_mem_app, fo_mem_cons]
      simp only [fo_mem_nil, or_false]
    have nd2 := nd
    rw [fo_ns_app, List.nodup_append] at nd2
    obtain ⟨n1, n2, n3⟩ := nd2
    have n2' : (x :: fo_ns B).Nodup := n2
    rw [List.nodup_cons] at n2'
    have hxA : ¬ x ∈ fo_ns ra.reverse := fun z => n3 x z x List.mem_cons_self rfl
    have hAB : ∀ z, z ∈ fo_ns ra.reverse → ¬ z ∈ fo_ns B := fun z a b => n3 z a z (List.mem_cons_of_mem _ b) rfl
    have sS := fo_sb_set W va hx v
    have k2' : w = va x := k2
    have k3' : h x + w + fo_he (fo_sb W va) 0 B = fo_sb W va x := k3
    have s1 : ∀ z, z ∈ W x → fo_sb W (upd va x v) z = fo_sb W va z + (v - w) := by
      intro z hz
      rw [sS z, if_pos hz, ← k2']
    have s0 : ∀ z, ¬ z ∈ W x → fo_sb W (upd va x v) z = fo_sb W va z := by
      intro z hz
      rw [sS z, if_neg hz, Int32.add_zero]
    have hBx : ∀ z, z ∈ fo_ns B → ¬ z ∈ W x := by
      intro z hz hw
      rcases (hWm z).mp hw with a | a
      · exact hAB z a hz
      · rw [a] at hz
        exact n2'.1 hz
    have heB : fo_he (fo_sb W (upd va x v)) 0 B = fo_he (fo_sb W va) 0 B := fo_he_congr B fun z hz => s0 z (hBx z hz)
    have G : fo_CS pa (upd va x v) (fo_sb W (upd va x v)) h 0 (-1) (ra.reverse ++ (x, v) :: B) := by
      refine (fo_CS_app _ _ _).mpr ⟨?_, ?_⟩
      · have := fo_CS_shift (pa' := pa) (va' := upd va x v) (sb' := fo_sb W (upd va x v)) (v - w) _ _ (fun z hz => ⟨rfl, fo_un (fun e => hxA (by rw [← e]; exact hz)), s1 z ((hWm z).mpr (Or.inl hz))⟩) H2
        have e : fo_he (fo_sb W (upd va x v)) 0 ((x, v) :: B) = fo_he (fo_sb W va) 0 ([(x, w)] ++ B) + (v - w) := s1 x ((hWm x).mpr (Or.inr rfl))
        rw [e]
        exact this
      · refine ⟨k1, fo_us.symm, ?_, ?_⟩
        · rw [heB]
          show h x + v + fo_he (fo_sb W va) 0 B = fo_sb W (upd va x v) x
          rw [s1 x ((hWm x).mpr (Or.inr rfl)), ← k3']
          grind
        · refine fo_CS_congr B _ (fun z hz => ⟨rfl, fo_un (fun e => n2'.1 (by rw [← e]; exact hz)), s0 z (hBx z hz), rfl⟩) H5
    have eN : fo_ns (ra.reverse ++ (x, v) :: B) = fo_ns (ra.reverse ++ ([(x, w)] ++ B)) := by
      rw [fo_ns_app, fo_ns_app]
      rfl
    obtain ⟨va', v1, v2, v3⟩ := fo_law_paint Y v ra (upd va x v) ((x, v) :: B) (by rw [eN]; exact hl) G
    refine ⟨va', fun z => ?_, ?_, fun z hz => ?_⟩
    · rw [v1 z]
      by_cases a : z ∈ fo_ns ra
      · rw [if_pos a, if_pos (fo_mem_cons.mpr (Or.inr a))]
      · rw [if_neg a]
        by_cases b : z = x
        · rw [b, fo_us, if_pos (fo_mem_cons.mpr (Or.inl rfl))]
        · rw [fo_un b, if_neg]
          intro q
          rcases fo_mem_cons.mp q with q | q
          · exact b q
          · exact a q
    · have e : (fo_mp v ((x, w) :: ra)).reverse ++ B = (fo_mp v ra).reverse ++ (x, v) :: B := by
        show ((x, v) :: fo_mp v ra).reverse ++ B = _
        rw [List.reverse_cons, List.append_assoc]
        rfl
      rw [e]
      exact v2
    · rw [List.reverse_cons, List.append_assoc] at hz
      have hz2 : ¬ z ∈ W x := by
        intro q
        rcases (hWm z).mp q with a | a
        · exact hz (fo_mem_app.mpr (Or.inl a))
        · exact hz (fo_mem_app.mpr (Or.inr (fo_mem_cons.mpr (Or.inl a))))
      rw [v3 z (by rw [eN]; exact hz), s0 z hz2]
end
section
/-! the state's arrays by name -/
abbrev fo_lf (u : SX) : Nat → Int32 := u.1
abbrev fo_rt (u : SX) : Nat → Int32 := u.2.1
abbrev fo_ab (u : SX) : Nat → Int32 := u.2.2.1
abbrev fo_vl (u : SX) : Nat → Int32 := u.2.2.2.1
abbrev fo_sz (u : SX) : Nat → Int32 := u.2.2.2.2.1
abbrev fo_su (u : SX) : Nat → Int32 := u.2.2.2.2.2.1
abbrev fo_ls (u : SX) : Nat → Int32 := u.2.2.2.2.2.2.1
abbrev fo_wh (u : SX) : Nat → Int32 := u.2.2.2.2.2.2.2.1
abbrev fo_hg (u : SX) : Nat → Int32 := u.2.2.2.2.2.2.2.2.1
abbrev fo_tn (u : SX) : Nat → Int32 := u.2.2.2.2.2.2.2.2.2.1
abbrev fo_pd (u : SX) : Nat → Int32 := u.2.2.2.2.2.2.2.2.2.2.1
abbrev fo_co (u : SX) : Nat → Int32 := u.2.2.2.2.2.2.2.2.2.2.2.1
abbrev fo_st (u : SX) : Nat → Int32 := u.2.2.2.2.2.2.2.2.2.2.2.2
def fo_px (x : Int32) : Prop := x = -1 ∨ ∃ c, c < 24 ∧ x = nI c
def fo_ch (u : SX) (m c : Nat) : Prop := fo_lf u m = nI c ∨ fo_rt u m = nI c
def fo_top (u : SX) (c : Nat) : Prop := ∀ m, m < 24 → ¬ fo_ch u m c
def fo_clr (u : SX) (n : Nat) : Prop := fo_tn u n = 0 ∧ fo_pd u n = 0
def fo_NI (u : SX) (L : Nat → List (Nat × Int32)) (pa va sb : Nat → Int32) (n : Nat) : Prop :=
  (fo_px (fo_lf u n) ∧ fo_px (fo_rt u n) ∧ fo_px (fo_ab u n)) ∧
  (∀ c, c < 24 → fo_ch u n c → fo_ab u c = nI n) ∧
  (L n = fo_tw (fo_tn u n) (fo_pn (fo_pd u n) (fo_co u n) (fo_LO L (fo_lf u n)) ++ (n, fo_vl u n) :: fo_pn (fo_pd u n) (fo_co u n) (fo_LO L (fo_rt u n)))) ∧
  ((fo_ns (L n)).Nodup ∧ ∀ x, x ∈ fo_ns (L n) → x < 24) ∧
  fo_AG (fo_sz u n) (fo_su u n) (fo_ls u n) (fo_wh u n) (fo_hg u) (L n) ∧
  (fo_top u n → fo_CS pa va sb (fo_hg u) 0 (fo_ab u n) (L n))
def fo_INV (u : SX) (L : Nat → List (Nat × Int32)) (pa va sb : Nat → Int32) : Prop := ∀ n, n < 24 → fo_NI u L pa va sb n
section
variable {u : SX} {L : Nat → List (Nat × Int32)} {pa va sb : Nat → Int32}
theorem fo_i_lf (I : fo_INV u L pa va sb) {n : Nat} (hn : n < 24) : fo_px (fo_lf u n) := (I n hn).1.1
theorem fo_i_rt (I : fo_INV u L pa va sb) {n : Nat} (hn : n < 24) : fo_px (fo_rt u n) := (I n hn).1.2.1
theorem fo_i_ab (I : fo_INV u L pa va sb) {n : Nat} (hn : n < 24) : fo_px (fo_ab u n) := (I n hn).1.2.2
theorem fo_i_ch (I : fo_INV u L pa va sb) {n c : Nat} (hn : n < 24) (hc : c < 24) (h : fo_ch u n c) : fo_ab u c = nI n := (I n hn).2.1 c hc h
theorem fo_i_cn (I : fo_INV u L pa va sb) {n : Nat} (hn : n < 24) : L n = fo_tw (fo_tn u n) (fo_pn (fo_pd u n) (fo_co u n) (fo_LO L (fo_lf u n)) ++ (n, fo_vl u n) :: fo_pn (fo_pd u n) (fo_co u n) (fo_LO L (fo_rt u n))) := (I n hn).2.2.1
theorem fo_i_nd (I : fo_INV u L pa va sb) {n : Nat} (hn : n < 24) : (fo_ns (L n)).Nodup := (I n hn).2.2.2.1.1
theorem fo_i_lt (I : fo_INV u L pa va sb) {n x : Nat} (hn : n < 24) (hx : x ∈ fo_ns (L n)) : x < 24 := (I n hn).2.2.2.1.2 x hx
theorem fo_i_ag (I : fo_INV u L pa va sb) {n : Nat} (hn : n < 24) : fo_AG (fo_sz u n) (fo_su u n) (fo_ls u n) (fo_wh u n) (fo_hg u) (L n) := (I n hn).2.2.2.2.1
theorem fo_i_cs (I : fo_INV u L pa va sb) {n : Nat} (hn : n < 24) (h : fo_top u n) : fo_CS pa va sb (fo_hg u) 0 (fo_ab u n) (L n) := (I n hn).2.2.2.2.2 h
/-- a clear node's content -/
theorem fo_i_cl (I : fo_INV u L pa va sb) {n : Nat} (hn : n < 24) (h : fo_clr u n) : L n = fo_LO L (fo_lf u n) ++ (n, fo_vl u n) :: fo_LO L (fo_rt u n) := by
  have := fo_i_cn I hn
  rw [h.1, h.2, fo_tw0, fo_pn0, fo_pn0] at this
  exact this
theorem fo_i_mem (I : fo_INV u L pa va sb) {n : Nat} (hn : n < 24) (x : Nat) : x ∈ fo_ns (L n) ↔ x ∈ fo_ns (fo_LO L (fo_lf u n)) ∨ x = n ∨ x ∈ fo_ns (fo_LO L (fo_rt u n)) := by
  rw [fo_i_cn I hn, fo_mem_tw, fo_mem_app, fo_ns_pn, fo_mem_cons, fo_ns_pn]
theorem fo_i_len (I : fo_INV u L pa va sb) {n : Nat} (hn : n < 24) : (L n).length = (fo_LO L (fo_lf u n)).length + (fo_LO L (fo_rt u n)).length + 1 := by
  rw [fo_i_cn I hn, fo_len_tw, List.length_append, List.length_cons, fo_len_pn, fo_len_pn]
  omega
theorem fo_i_nd2 (I : fo_INV u L pa va sb) {n : Nat} (hn : n < 24) : (fo_ns (fo_LO L (fo_lf u n)) ++ n :: fo_ns (fo_LO L (fo_rt u n))).Nodup := by
  have h := fo_i_nd I hn
  rw [fo_i_cn I hn] at h
  have e : fo_ns (fo_pn (fo_pd u n) (fo_co u n) (fo_LO L (fo_lf u n)) ++ (n, fo_vl u n) :: fo_pn (fo_pd u n) (fo_co u n) (fo_LO L (fo_rt u n))) = fo_ns (fo_LO L (fo_lf u n)) ++ n :: fo_ns (fo_LO L (fo_rt u n)) := by
    rw [fo_ns_app, fo_ns_cons, fo_ns_pn, fo_ns_pn]
  rw [← e]
  unfold fo_tw at h
  split at h
  · exact h
  · rw [fo_ns_rev] at h
    exact (List.reverse_perm _).nodup h
theorem fo_i_self (I : fo_INV u L pa va sb) {n : Nat} (hn : n < 24) : n ∈ fo_ns (L n) := (fo_i_mem I hn n).mpr (Or.inr (Or.inl rfl))
theorem fo_i_ne (I : fo_INV u L pa va sb) {n : Nat} (hn : n < 24) : L n ≠ [] := by
  intro h
  have := fo_i_self I hn
  rw [h] at this
  exact fo_mem_nil this
theorem fo_i_24 (I : fo_INV u L pa va sb) {n : Nat} (hn : n < 24) : (L n).length ≤ 24 := by
  rw [← fo_ns_len]
  exact fo_nd24 (fo_i_nd I hn) (fun x hx => fo_i_lt I hn hx)
/-- a child's part -/
theorem fo_i_sub (I : fo_INV u L pa va sb) {n c : Nat} (hn : n < 24) (hc : c < 24) (h : fo_ch u n c) : (∀ x, x ∈ fo_ns (L c) → x ∈ fo_ns (L n)) ∧ (L c).length < (L n).length ∧ ¬ n ∈ fo_ns (L c) := by
  have nd := fo_i_nd2 I hn
  rw [List.nodup_append, List.nodup_cons] at nd
  obtain ⟨_, ⟨n1, _⟩, n2⟩ := nd
  have len := fo_i_len I hn
  rcases h with h | h
  · rw [h, fo_LO_s L hc] at n2 len
    refine ⟨fun x hx => (fo_i_mem I hn x).mpr (Or.inl ?_), by omega, fun z => n2 n z n List.mem_cons_self rfl⟩
    rw [h, fo_LO_s L hc]
    exact hx
  · rw [h, fo_LO_s L hc] at n1 len
    refine ⟨fun x hx => (fo_i_mem I hn x).mpr (Or.inr (Or.inr ?_)), by omega, n1⟩
    rw [h, fo_LO_s L hc]
    exact hx
theorem fo_i_chne (I : fo_INV u L pa va sb) {n c : Nat} (hn : n < 24) (hc : c < 24) (h : fo_ch u n c) : c ≠ n := by
  intro e
  subst e
  have := (fo_i_sub I hn hc h).2.1
  omega
theorem fo_i_lr (I : fo_INV u L pa va sb) {n c : Nat} (hn : n < 24) (hc : c < 24) (h : fo_lf u n = nI c) : ¬ fo_rt u n = nI c := by
  intro h2
  have nd := fo_i_nd2 I hn
  rw [h, h2, fo_LO_s L hc, List.nodup_append] at nd
  exact nd.2.2 c (fo_i_self I hc) c (List.mem_cons_of_mem _ (fo_i_self I hc)) rfl
theorem fo_i_down (I : fo_INV u L pa va sb) {n x : Nat} (hn : n < 24) (hx : x ∈ fo_ns (L n)) : x = n ∨ ∃ c, c < 24 ∧ fo_ch u n c ∧ x ∈ fo_ns (L c) := by
  rcases (fo_i_mem I hn x).mp hx with h | h | h
  · rcases fo_i_lf I hn with e | ⟨c, hc, e⟩
    · rw [e, fo_LO_n] at h
      exact absurd h fo_mem_nil
    · rw [e, fo_LO_s L hc] at h
      exact Or.inr ⟨c, hc, Or.inl e, h⟩
  · exact Or.inl h
  · rcases fo_i_rt I hn with e | ⟨c, hc, e⟩
    · rw [e, fo_LO_n] at h
      exact absurd h fo_mem_nil
    · rw [e, fo_LO_s L hc] at h
      exact Or.inr ⟨c, hc, Or.inr e, h⟩
theorem fo_i_up1 (I : fo_INV u L pa va sb) {p q c : Nat} (hp : p < 24) (hq : q < 24) (hc : c < 24) (h : fo_ch u p c) (h2 : fo_ch u q c) : p = q :=
  fo_ij hp hq ((fo_i_ch I hp hc h).symm.trans (fo_i_ch I hq hc h2))
theorem fo_i_par (I : fo_INV u L pa va sb) : ∀ (k n x : Nat), (L n).length ≤ k → n < 24 → x ∈ fo_ns (L n) → x ≠ n → ∃ p, p < 24 ∧ fo_ch u p x ∧ p ∈ fo_ns (L n)
  | 0, n, x, hk, hn, hx, _ => by
    have := List.length_pos_of_mem hx
    rw [fo_ns_len] at this
    omega
  | k + 1, n, x, hk, hn, hx, ne => by
    rcases fo_i_down I hn hx with e | ⟨c, hc, h1, h2⟩
    · exact absurd e ne
    · obtain ⟨s1, s2, s3⟩ := fo_i_sub I hn hc h1
      by_cases e : x = c
      · subst e
        exact ⟨n, hn, h1, fo_i_self I hn⟩
      · obtain ⟨p, p1, p2, p3⟩ := fo_i_par I k c x (by omega) hc h2 e
        exact ⟨p, p1, p2, s1 p p3⟩
theorem fo_i_ntop (I : fo_INV u L pa va sb) {n x : Nat} (hn : n < 24) (hx : x ∈ fo_ns (L n)) (ht : fo_top u x) : x = n := by
  by_cases e : x = n
  · exact e
  · obtain ⟨p, p1, p2, _⟩ := fo_i_par I _ n x (Nat.le_refl _) hn hx e
    exact absurd p2 (ht p p1)
theorem fo_i_tr (I : fo_INV u L pa va sb) : ∀ (k n x : Nat), (L n).length ≤ k → n < 24 → x ∈ fo_ns (L n) → (∀ y, y ∈ fo_ns (L x) → y ∈ fo_ns (L n)) ∧ (x ≠ n → (L x).length < (L n).length)
  | 0, n, x, hk, hn, hx => by
    have := List.length_pos_of_mem hx
    rw [fo_ns_len] at this
    omega
  | k + 1, n, x, hk, hn, hx => by
    rcases fo_i_down I hn hx with e | ⟨c, hc, h1, h2⟩
    · subst e
      exact ⟨fun _ h => h, fun h => absurd rfl h⟩
    · obtain ⟨s1, s2, s3⟩ := fo_i_sub I hn hc h1
      obtain ⟨t1, t2⟩ := fo_i_tr I k c x (by omega) hc h2
      refine ⟨fun y hy => s1 y (t1 y hy), fun _ => ?_⟩
      by_cases e : x = c
      · rw [e]; exact s2
      · exact Nat.lt_trans (t2 e) s2
theorem fo_i_trs (I : fo_INV u L pa va sb) {n x y : Nat} (hn : n < 24) (hx : x ∈ fo_ns (L n)) (hy : y ∈ fo_ns (L x)) : y ∈ fo_ns (L n) := (fo_i_tr I _ n x (Nat.le_refl _) hn hx).1 y hy
theorem fo_i_trl (I : fo_INV u L pa va sb) {n x : Nat} (hn : n < 24) (hx : x ∈ fo_ns (L n)) (h : x ≠ n) : (L x).length < (L n).length := (fo_i_tr I _ n x (Nat.le_refl _) hn hx).2 h
/-- a node that is not a top has a node above in its piece -/
theorem fo_i_abv (I : fo_INV u L pa va sb) {n : Nat} (hn : n < 24) (h : ¬ fo_top u n) : ∃ p, p < 24 ∧ fo_ab u n = nI p ∧ fo_ch u p n := by
  by_cases e : ∃ p, p < 24 ∧ fo_ch u p n
  · obtain ⟨p, hp, hc⟩ := e
    exact ⟨p, hp, fo_i_ch I hp hn hc, hc⟩
  · exact absurd (fun m hm z => e ⟨m, hm, z⟩) h
/-- the node above of a member is a member -/
theorem fo_i_upm (I : fo_INV u L pa va sb) {n x p : Nat} (hn : n < 24) (hp : p < 24) (hx : x ∈ fo_ns (L n)) (ne : x ≠ n) (hc : fo_ch u p x) : p ∈ fo_ns (L n) := by
  obtain ⟨q, q1, q2, q3⟩ := fo_i_par I _ n x (Nat.le_refl _) hn hx ne
  rw [fo_i_up1 I hp q1 (fo_i_lt I hn hx) hc q2]
  exact q3
theorem fo_i_dj (I : fo_INV u L pa va sb) (k : Nat) : ∀ (x s t : Nat), 24 - (L x).length ≤ k → s < 24 → t < 24 → fo_top u s → fo_top u t → x ∈ fo_ns (L s) → x ∈ fo_ns (L t) → s = t := by
  induction k with
  | zero =>
    intro x s t hk hs ht ts tt xs xt
    have hx : x < 24 := fo_i_lt I hs xs
    by_cases e : x = s
    · subst e
      exact fo_i_ntop I ht xt ts
    · obtain ⟨p, p1, p2, p3⟩ := fo_i_par I _ s x (Nat.le_refl _) hs xs e
      have l1 := (fo_i_sub I p1 hx p2).2.1
      have l2 := fo_i_24 I p1
      omega
  | succ k ih =>
    intro x s t hk hs ht ts tt xs xt
    have hx : x < 24 := fo_i_lt I hs xs
    by_cases e : x = s
    · subst e
      exact fo_i_ntop I ht xt ts
    · by_cases e2 : x = t
      · subst e2
        exact (fo_i_ntop I hs xs tt).symm
      · obtain ⟨p, p1, p2, p3⟩ := fo_i_par I _ s x (Nat.le_refl _) hs xs e
        have p4 := fo_i_upm I ht p1 xt e2 p2
        have l1 := (fo_i_sub I p1 hx p2).2.1
        have l2 := fo_i_24 I p1
        exact ih p s t (by omega) hs ht ts tt p3 p4
theorem fo_i_dis (I : fo_INV u L pa va sb) {x s t : Nat} (hs : s < 24) (ht : t < 24) (ts : fo_top u s) (tt : fo_top u t) (xs : x ∈ fo_ns (L s)) (xt : x ∈ fo_ns (L t)) : s = t := fo_i_dj I _ x s t (Nat.le_refl _) hs ht ts tt xs xt
/-- the test for a top -/
theorem fo_isTop (I : fo_INV u L pa va sb) {n : Nat} (hn : n < 24) {post : Int32 → Prop} (h1 : fo_top u n → post 1) (h0 : ¬ fo_top u n → post 0) : wpX_isTop post u (nI n) := by
  have hab := fo_i_ab I hn
  have hch : ∀ m, m < 24 → fo_ch u m n → fo_ab u n = nI m := fun m hm h => fo_i_ch I hm hn h
  obtain ⟨lf, rt, ab, vl, sz, su, ls, wh, hg, tn, pd, co, st⟩ := u
  refine And.intro (fo_in hn) fun x2 e => ?_
  rw [fo_cl hn] at e
  subst e
  rcases hab with e | ⟨p, hp, e⟩
  · have e' : ab n = -1 := e
    refine br_t (by rw [e']; exact fo_neg) (h1 fun m hm h => ?_)
    exact fo_m1 hm ((hch m hm h).symm.trans e)
  · have e' : ab n = nI p := e
    rw [e']
    refine br_f (fo_nn hp) ⟨fo_in hp, ?_⟩
    rw [fo_cl hp]
    refine br_c (fun h => h0 fun t => t p hp (Or.inl h)) fun h => ⟨fo_in hp, br_c (fun h2 => h0 fun t => t p hp (Or.inr h2)) fun h2 => h1 fun m hm z => ?_⟩
    have hmp : m = p := fo_ij hm hp ((hch m hm z).symm.trans e)
    subst hmp
    rcases z with z | z
    · exact h z
    · exact h2 z
end
end
section
/-! the small methods: gathering, painting, turning a part -/
section
variable {lf rt ab vl sz su ls wh hg tn pd co st : Nat → Int32} {L : Nat → List (Nat × Int32)} {n : Nat}
theorem fo_gc {post : SX → Prop} {l : List (Nat × Int32)} {x : Int32} (hn : n < 24) (hx : x = -1 ∨ ∃ c, c < 24 ∧ c ≠ n ∧ x = nI c ∧ fo_AG (sz c) (su c) (ls c) (wh c) hg (L c)) (hA : fo_AG (sz n) (su n) (ls n) (wh n) hg l)
    (H : ∀ sz' su' ls' wh' : Nat → Int32, (∀ j, j ≠ n → sz' j = sz j ∧ su' j = su j ∧ ls' j = ls j ∧ wh' j = wh j) → fo_AG (sz' n) (su' n) (ls' n) (wh' n) hg (l ++ fo_LO L x) → post (lf, rt, ab, vl, sz', su', ls', wh', hg, tn, pd, co, st)) :
    wpX_gatherChild post (lf, rt, ab, vl, sz, su, ls, wh, hg, tn, pd, co, st) (nI n) x := by
  rcases hx with e | ⟨c, hc, hcn, e, hAc⟩
  · subst e
    refine br_t fo_neg (H sz su ls wh (fun j _ => ⟨rfl, rfl, rfl, rfl⟩) ?_)
    rw [fo_LO_n, List.append_nil]
    exact hA
  · subst e
    have hA2 := fo_AG_app hA hAc
    refine br_f (fo_nn hc) ⟨fo_in hn, fo_in hc, fo_in hn, fun sz1 e1 => ⟨fo_in hn, fo_in hc, fo_in hn, fun su1 e2 => ⟨fo_in hc, fo_in hn, br_c (fun h => ⟨fo_in hn, And.intro (fo_in hn) fun ls1 e3 => ⟨fo_in hn, fo_in hc, fo_in hn, fun wh1 e4 => ?_⟩⟩) (fun h => ⟨fo_in hc, And.intro (fo_in hn) fun ls1 e3 => ⟨fo_in hn, fo_in hc, fo_in hn, fun wh1 e4 => ?_⟩⟩)⟩⟩⟩
    · rw [fo_cl hn] at e1 e2 e3 e4
      rw [fo_cl hc] at e1 e2 e4
      rw [fo_cl hn, fo_cl hc] at h
      subst e1 e2 e3 e4
      refine H _ _ _ _ (fun j hj => ⟨fo_un hj, fo_un hj, fo_un hj, fo_un hj⟩) ?_
      rw [fo_us, fo_us, fo_us, fo_us, fo_LO_s L hc]
      have z : fo_mi (ls n) (ls c) = ls n := if_pos h
      rw [z] at hA2
      exact hA2
    · rw [fo_cl hn] at e1 e2 e3 e4
      rw [fo_cl hc] at e1 e2 e3 e4
      rw [fo_cl hn, fo_cl hc] at h
      subst e1 e2 e3 e4
      refine H _ _ _ _ (fun j hj => ⟨fo_un hj, fo_un hj, fo_un hj, fo_un hj⟩) ?_
      rw [fo_us, fo_us, fo_us, fo_us, fo_LO_s L hc]
      have z : fo_mi (ls n) (ls c) = ls c := if_neg h
      rw [z] at hA2
      exact hA2
theorem fo_ga {post : SX → Prop} (hn : n < 24) (hl : lf n = -1 ∨ ∃ c, c < 24 ∧ c ≠ n ∧ lf n = nI c ∧ fo_AG (sz c) (su c) (ls c) (wh c) hg (L c)) (hr : rt n = -1 ∨ ∃ c, c < 24 ∧ c ≠ n ∧ rt n = nI c ∧ fo_AG (sz c) (su c) (ls c) (wh c) hg (L c))
    (H : ∀ sz' su' ls' wh' : Nat → Int32, (∀ j, j ≠ n → sz' j = sz j ∧ su' j = su j ∧ ls' j = ls j ∧ wh' j = wh j) → fo_AG (sz' n) (su' n) (ls' n) (wh' n) hg (fo_LO L (lf n) ++ (n, vl n) :: fo_LO L (rt n)) → post (lf, rt, ab, vl, sz', su', ls', wh', hg, tn, pd, co, st)) :
    wpX_gather post (lf, rt, ab, vl, sz, su, ls, wh, hg, tn, pd, co, st) (nI n) := by
  refine And.intro (fo_in hn) fun sz1 e1 => ⟨fo_in hn, fo_in hn, fun su1 e2 => ⟨fo_in hn, fo_in hn, fun ls1 e3 => ⟨fo_in hn, fo_in hn, fo_in hn, fun wh1 e4 => ⟨fo_in hn, ?_⟩⟩⟩⟩
  rw [fo_cl hn] at e1 e2 e3 e4
  rw [fo_cl hn]
  subst e1 e2 e3 e4
  have keep : ∀ x : Int32, (x = -1 ∨ ∃ c, c < 24 ∧ c ≠ n ∧ x = nI c ∧ fo_AG (sz c) (su c) (ls c) (wh c) hg (L c)) → ∀ sz2 su2 ls2 wh2 : Nat → Int32, (∀ j, j ≠ n → sz2 j = sz j ∧ su2 j = su j ∧ ls2 j = ls j ∧ wh2 j = wh j) → (x = -1 ∨ ∃ c, c < 24 ∧ c ≠ n ∧ x = nI c ∧ fo_AG (sz2 c) (su2 c) (ls2 c) (wh2 c) hg (L c)) := by
    intro x hx sz2 su2 ls2 wh2 hs
    rcases hx with e | ⟨c, hc, hcn, e, hA⟩
    · exact Or.inl e
    · obtain ⟨s1, s2, s3, s4⟩ := hs c hcn
      refine Or.inr ⟨c, hc, hcn, e, ?_⟩
      rw [s1, s2, s3, s4]
      exact hA
  refine fo_gc (L := L) (l := [(n, vl n)]) hn (keep _ hl _ _ _ _ fun j hj => ⟨fo_un hj, fo_un hj, fo_un hj, fo_un hj⟩) ?_ ?_
  · rw [fo_us, fo_us, fo_us, fo_us]
    exact fo_AG_one hg n (vl n)
  · intro sz2 su2 ls2 wh2 hs hA
    refine And.intro (fo_in hn) ?_
    have hs' : ∀ j, j ≠ n → sz2 j = sz j ∧ su2 j = su j ∧ ls2 j = ls j ∧ wh2 j = wh j := by
      intro j hj
      obtain ⟨s1, s2, s3, s4⟩ := hs j hj
      rw [fo_un hj] at s1 s2 s3 s4
      exact ⟨s1, s2, s3, s4⟩
    refine fo_gc (L := L) (l := fo_LO L (lf n) ++ [(n, vl n)]) hn (keep _ hr _ _ _ _ hs') (fo_AG_swap hA) ?_
    intro sz3 su3 ls3 wh3 ht hA3
    refine H sz3 su3 ls3 wh3 (fun j hj => ?_) ?_
    · obtain ⟨s1, s2, s3, s4⟩ := hs' j hj
      obtain ⟨t1, t2, t3, t4⟩ := ht j hj
      exact ⟨t1.trans s1, t2.trans s2, t3.trans s3, t4.trans s4⟩
    · rw [List.append_assoc] at hA3
      exact hA3
theorem fo_pp {post : SX → Prop} {l : List (Nat × Int32)} (v : Int32) (hn : n < 24) (hl : l ≠ []) (hA : fo_AG (sz n) (su n) (ls n) (wh n) hg l)
    (H : ∀ vl' su' ls' wh' pd' co' : Nat → Int32, (∀ j, j ≠ n → vl' j = vl j ∧ su' j = su j ∧ ls' j = ls j ∧ wh' j = wh j ∧ pd' j = pd j ∧ co' j = co j) → vl' n = v → ¬ pd' n = 0 → co' n = v → fo_AG (sz n) (su' n) (ls' n) (wh' n) hg (fo_mp v l) → post (lf, rt, ab, vl', sz, su', ls', wh', hg, tn, pd', co', st)) :
    wpX_paintPiece post (lf, rt, ab, vl, sz, su, ls, wh, hg, tn, pd, co, st) (nI n) v := by
  refine And.intro (fo_in hn) ⟨fo_in hn, fo_in hn, fo_in hn, fun wh1 e1 => ⟨fo_in hn, fo_in hn, fun su1 e2 => ⟨fo_in hn, fun ls1 e3 => ⟨fo_in hn, fun vl1 e4 => ⟨fo_in hn, fun pd1 e5 => ⟨fo_in hn, fun co1 e6 => ?_⟩⟩⟩⟩⟩⟩
  rw [fo_cl hn] at e1 e2 e3 e4 e5 e6
  subst e1 e2 e3 e4 e5 e6
  refine H _ _ _ _ _ _ (fun j hj => ⟨fo_un hj, fo_un hj, fo_un hj, fo_un hj, fo_un hj, fo_un hj⟩) fo_us ?_ fo_us ?_
  · rw [fo_us, fo_b1]
    exact fo_10
  · rw [fo_us, fo_us, fo_us]
    exact fo_AG_mp v hl hA
theorem fo_tp {post : SX → Prop} {x : Int32} (hx : fo_px x)
    (H : ∀ tn' : Nat → Int32, (∀ j, j < 24 → (x ≠ nI j → tn' j = tn j) ∧ (x = nI j → (tn' j = 0 ↔ ¬ tn j = 0))) → post (lf, rt, ab, vl, sz, su, ls, wh, hg, tn', pd, co, st)) :
    wpX_turnPiece post (lf, rt, ab, vl, sz, su, ls, wh, hg, tn, pd, co, st) x := by
  rcases hx with e | ⟨c, hc, e⟩
  · subst e
    exact br_t fo_neg (H tn fun j hj => ⟨fun _ => rfl, fun e => absurd e.symm (fo_m1 hj)⟩)
  · subst e
    refine br_f (fo_nn hc) ⟨fo_in hc, br_c (fun h => ⟨fo_in hc, fun tn1 e1 => ?_⟩) (fun h => ⟨fo_in hc, fun tn1 e1 => ?_⟩)⟩
    · rw [fo_cl hc] at e1 h
      subst e1
      refine H _ fun j hj => ⟨fun ne => fo_un (fun e => ne (by rw [e])), fun e => ?_⟩
      have e2 := fo_ij hc hj e
      subst e2
      rw [fo_us, fo_b1]
      exact ⟨fun z => absurd z fo_10, fun z => absurd h z⟩
    · rw [fo_cl hc] at e1 h
      subst e1
      refine H _ fun j hj => ⟨fun ne => fo_un (fun e => ne (by rw [e])), fun e => ?_⟩
      have e2 := fo_ij hc hj e
      subst e2
      rw [fo_us, fo_b0]
      exact ⟨fun _ => h, fun _ => rfl⟩
end
end
section
/-! handing down -/
section
variable {pa va sb : Nat → Int32}
theorem fo_push {u u' : SX} {L L' : Nat → List (Nat × Int32)} (I : fo_INV u L pa va sb) {n : Nat} (hn : n < 24) (eab : fo_ab u' = fo_ab u) (ehg : fo_hg u' = fo_hg u)
    (h1 : ∀ m, m < 24 → m ≠ n → fo_lf u' m = fo_lf u m ∧ fo_rt u' m = fo_rt u m)
    (h2 : (fo_lf u' n = fo_lf u n ∧ fo_rt u' n = fo_rt u n) ∨ (fo_lf u' n = fo_rt u n ∧ fo_rt u' n = fo_lf u n))
    (h3 : ∀ m, m < 24 → ¬ fo_ch u n m → L' m = L m)
    (h4 : ∀ m, m < 24 → ¬ fo_ch u n m → m ≠ n → fo_vl u' m = fo_vl u m ∧ fo_tn u' m = fo_tn u m ∧ fo_pd u' m = fo_pd u m ∧ fo_co u' m = fo_co u m)
    (h5 : ∀ m, m < 24 → ¬ fo_ch u n m → fo_sz u' m = fo_sz u m ∧ fo_su u' m = fo_su u m ∧ fo_ls u' m = fo_ls u m ∧ fo_wh u' m = fo_wh u m)
    (h6 : ∀ m, m < 24 → fo_ch u n m → fo_AG (fo_sz u' m) (fo_su u' m) (fo_ls u' m) (fo_wh u' m) (fo_hg u) (L' m) ∧ L' m = fo_tw (fo_tn u' m) (fo_pn (fo_pd u' m) (fo_co u' m) (fo_LO L (fo_lf u m)) ++ (m, fo_vl u' m) :: fo_pn (fo_pd u' m) (fo_co u' m) (fo_LO L (fo_rt u m))) ∧ (fo_ns (L' m)).Nodup ∧ ∀ x, x ∈ fo_ns (L' m) ↔ x ∈ fo_ns (L m))
    (h7 : L n = fo_tw (fo_tn u' n) (fo_pn (fo_pd u' n) (fo_co u' n) (fo_LO L' (fo_lf u' n)) ++ (n, fo_vl u' n) :: fo_pn (fo_pd u' n) (fo_co u' n) (fo_LO L' (fo_rt u' n)))) :
    fo_INV u' L' pa va sb ∧ (∀ m, m < 24 → ∀ x, x ∈ fo_ns (L' m) ↔ x ∈ fo_ns (L m)) ∧ (∀ m c, m < 24 → (fo_ch u' m c ↔ fo_ch u m c)) := by
  have hch : ∀ m c, m < 24 → (fo_ch u' m c ↔ fo_ch u m c) := by
    intro m c hm
    unfold fo_ch
    by_cases e : m = n
    · subst e
      rcases h2 with ⟨a, b⟩ | ⟨a, b⟩
      · rw [a, b]
      · rw [a, b]; exact or_comm
    · rw [(h1 m hm e).1, (h1 m hm e).2]
  have hLO : ∀ m x, m < 24 → m ≠ n → (x = fo_lf u m ∨ x = fo_rt u m) → fo_LO L' x = fo_LO L x := by
    intro m x hm ne hx
    have px : fo_px x := by
      rcases hx with e | e
      · rw [e]; exact fo_i_lf I hm
      · rw [e]; exact fo_i_rt I hm
    rcases px with e | ⟨c, hc, e⟩
    · rw [e, fo_LO_n, fo_LO_n]
    · have cm : fo_ch u m c := by
        rcases hx with a | a
        · exact Or.inl (a.symm.trans e)
        · exact Or.inr (a.symm.trans e)
      rw [e, fo_LO_s _ hc, fo_LO_s _ hc, h3 c hc (fun z => ne (fo_i_up1 I hm hn hc cm z))]
  have hmem : ∀ m, m < 24 → ∀ x, x ∈ fo_ns (L' m) ↔ x ∈ fo_ns (L m) := by
    intro m hm x
    by_cases c : fo_ch u n m
    · exact (h6 m hm c).2.2.2 x
    · rw [h3 m hm c]
  refine ⟨fun m hm => ⟨?_, ?_, ?_, ?_, ?_, ?_⟩, hmem, hch⟩
  · rw [eab]
    by_cases e : m = n
    · subst e
      rcases h2 with ⟨a, b⟩ | ⟨a, b⟩
      · rw [a, b]; exact (I m hm).1
      · rw [a, b]; exact ⟨fo_i_rt I hm, fo_i_lf I hm, fo_i_ab I hm⟩
    · rw [(h1 m hm e).1, (h1 m hm e).2]
      exact (I m hm).1
  · intro c hc h
    rw [eab]
    exact fo_i_ch I hm hc ((hch m c hm).mp h)
  · by_cases e : m = n
    · subst e
      rw [h3 m hm (fun z => fo_i_chne I hm hm z rfl)]
      exact h7
    · rw [(h1 m hm e).1, (h1 m hm e).2, hLO m _ hm e (Or.inl rfl), hLO m _ hm e (Or.inr rfl)]
      by_cases c : fo_ch u n m
      · exact (h6 m hm c).2.1
      · obtain ⟨a1, a2, a3, a4⟩ := h4 m hm c e
        rw [a1, a2, a3, a4, h3 m hm c]
        exact fo_i_cn I hm
  · by_cases c : fo_ch u n m
    · exact ⟨(h6 m hm c).2.2.1, fun x hx => fo_i_lt I hm ((hmem m hm x).mp hx)⟩
    · rw [h3 m hm c]
      exact (I m hm).2.2.2.1
  · rw [ehg]
    by_cases c : fo_ch u n m
    · exact (h6 m hm c).1
    · obtain ⟨a1, a2, a3, a4⟩ := h5 m hm c
      rw [a1, a2, a3, a4, h3 m hm c]
      exact fo_i_ag I hm
  · intro t
    have t' : fo_top u m := fun k hk z => t k hk ((hch k m hk).mpr z)
    rw [eab, ehg, h3 m hm (t' n hn)]
    exact fo_i_cs I hm t'
/-- what handing down at n keeps -/
def fo_HR (n : Nat) (u : SX) (L : Nat → List (Nat × Int32)) (u' : SX) (L' : Nat → List (Nat × Int32)) : Prop :=
  fo_ab u' = fo_ab u ∧ fo_st u' = fo_st u ∧ (∀ m, m < 24 → ∀ x, x ∈ fo_ns (L' m) ↔ x ∈ fo_ns (L m)) ∧ (∀ m c, m < 24 → (fo_ch u' m c ↔ fo_ch u m c)) ∧
  (∀ m, m < 24 → ¬ fo_ch u n m → m ≠ n → fo_tn u' m = fo_tn u m ∧ fo_pd u' m = fo_pd u m) ∧ (∀ m, m < 24 → ¬ fo_ch u n m → L' m = L m)
theorem fo_HR_refl (n : Nat) (u : SX) (L : Nat → List (Nat × Int32)) : fo_HR n u L u L := ⟨rfl, rfl, fun _ _ _ => Iff.rfl, fun _ _ _ => Iff.rfl, fun _ _ _ _ => ⟨rfl, rfl⟩, fun _ _ _ => rfl⟩
theorem fo_HR_trans {n : Nat} (hn : n < 24) {u u' u'' : SX} {L L' L'' : Nat → List (Nat × Int32)} (h : fo_HR n u L u' L') (g : fo_HR n u' L' u'' L'') : fo_HR n u L u'' L'' := by
  obtain ⟨h1, h2, h3, h4, h5, h6⟩ := h
  obtain ⟨g1, g2, g3, g4, g5, g6⟩ := g
  refine ⟨g1.trans h1, g2.trans h2, fun m hm x => (g3 m hm x).trans (h3 m hm x), fun m c hm => (g4 m c hm).trans (h4 m c hm), fun m hm c ne => ?_, fun m hm c => ?_⟩
  · have c' : ¬ fo_ch u' n m := fun z => c ((h4 n m hn).mp z)
    exact ⟨(g5 m hm c' ne).1.trans (h5 m hm c ne).1, (g5 m hm c' ne).2.trans (h5 m hm c ne).2⟩
  · have c' : ¬ fo_ch u' n m := fun z => c ((h4 n m hn).mp z)
    exact (g6 m hm c').trans (h6 m hm c)
section
variable {lf rt ab vl sz su ls wh hg tn pd co st : Nat → Int32} {L : Nat → List (Nat × Int32)} {n : Nat}
/-- a child is painted, if it is there -/
def fo_PF (x v : Int32) (L : Nat → List (Nat × Int32)) (vl sz su ls wh hg pd co vl' su' ls' wh' pd' co' : Nat → Int32) : Prop :=
  ∀ j, j < 24 → (x ≠ nI j → vl' j = vl j ∧ su' j = su j ∧ ls' j = ls j ∧ wh' j = wh j ∧ pd' j = pd j ∧ co' j = co j) ∧ (x = nI j → vl' j = v ∧ ¬ pd' j = 0 ∧ co' j = v ∧ fo_AG (sz j) (su' j) (ls' j) (wh' j) hg (fo_mp v (L j)))
theorem fo_pf {post : SX → Prop} {x : Int32} {c : Nat} (v : Int32) (hc : c < 24) (e : x = nI c) (hl : L c ≠ []) (hA : fo_AG (sz c) (su c) (ls c) (wh c) hg (L c))
    (H : ∀ vl' su' ls' wh' pd' co' : Nat → Int32, fo_PF x v L vl sz su ls wh hg pd co vl' su' ls' wh' pd' co' → post (lf, rt, ab, vl', sz, su', ls', wh', hg, tn, pd', co', st)) : wpX_paintPiece post (lf, rt, ab, vl, sz, su, ls, wh, hg, tn, pd, co, st) x v := by
  subst e
  refine fo_pp v hc hl hA fun vl' su' ls' wh' pd' co' hs a1 a2 a3 a4 => H vl' su' ls' wh' pd' co' fun j hj => ⟨fun ne => hs j (fun e => ne (by rw [e])), fun e => ?_⟩
  have e2 := fo_ij hc hj e
  subst e2
  exact ⟨a1, a2, a3, a4⟩
theorem fo_PF_m1 {v : Int32} : fo_PF (-1) v L vl sz su ls wh hg pd co vl su ls wh pd co := fun j hj => ⟨fun _ => ⟨rfl, rfl, rfl, rfl, rfl, rfl⟩, fun e => absurd e.symm (fo_m1 hj)⟩
theorem fo_h96 {post : SX → Prop} (hn : n < 24) (hr : rt n = -1 ∨ ∃ c, c < 24 ∧ rt n = nI c ∧ L c ≠ [] ∧ fo_AG (sz c) (su c) (ls c) (wh c) hg (L c))
    (H : ∀ vl' su' ls' wh' pd' co' : Nat → Int32, fo_PF (rt n) (co n) L vl sz su ls wh hg pd co vl' su' ls' wh' pd' co' → post (lf, rt, ab, vl', sz, su', ls', wh', hg, tn, upd pd' n 0, co', st)) :
    wX_handDown_96 post (nI n) lf rt ab vl sz su ls wh hg tn pd co st := by
  unfold wX_handDown_96
  rw [fo_cl hn]
  refine ⟨fo_in hn, ?_⟩
  rcases hr with e | ⟨c, hc, e, hl, hA⟩
  · refine br_t (by rw [e]; exact fo_neg) ⟨fo_in hn, fun pd1 e1 => ?_⟩
    subst e1
    refine H vl su ls wh pd co ?_
    rw [e]
    exact fo_PF_m1
  · refine br_f (by rw [e]; exact fo_nn hc) ⟨fo_in hn, fo_in hn, fo_pf (L := L) (co n) hc e hl hA fun vl' su' ls' wh' pd' co' hp => And.intro (fo_in hn) fun pd1 e1 => ?_⟩
    subst e1
    exact H vl' su' ls' wh' pd' co' hp
theorem fo_h62 {post : SX → Prop} (I : fo_INV (lf, rt, ab, vl, sz, su, ls, wh, hg, tn, pd, co, st) L pa va sb) (hn : n < 24) (ht : tn n = 0)
    (H : ∀ u' L', fo_INV u' L' pa va sb → fo_HR n (lf, rt, ab, vl, sz, su, ls, wh, hg, tn, pd, co, st) L u' L' → fo_clr u' n → post u') : wX_handDown_62 post (nI n) lf rt ab vl sz su ls wh hg tn pd co st := by
  have hlp : fo_px (lf n) := fo_i_lf I hn
  have hrp : fo_px (rt n) := fo_i_rt I hn
  have hAG : ∀ c, c < 24 → fo_AG (sz c) (su c) (ls c) (wh c) hg (L c) := fun c hc => fo_i_ag I hc
  have hNE : ∀ c, c < 24 → L c ≠ [] := fun c hc => fo_i_ne I hc
  unfold wX_handDown_62
  rw [fo_cl hn]
  refine ⟨fo_in hn, br_c (fun hp => H _ L I (fo_HR_refl _ _ _) ⟨ht, hp⟩) fun hp => ⟨fo_in hn, ?_⟩⟩
  have fin : ∀ vl1 su1 ls1 wh1 pd1 co1 : Nat → Int32, fo_PF (lf n) (co n) L vl sz su ls wh hg pd co vl1 su1 ls1 wh1 pd1 co1 → wX_handDown_96 post (nI n) lf rt ab vl1 sz su1 ls1 wh1 hg tn pd1 co1 st := by
    intro vl1 su1 ls1 wh1 pd1 co1 P1
    have nl : lf n ≠ nI n := fun e => fo_i_chne I hn hn (Or.inl e) rfl
    have nr : rt n ≠ nI n := fun e => fo_i_chne I hn hn (Or.inr e) rfl
    have con : co1 n = co n := ((P1 n hn).1 nl).2.2.2.2.2
    refine fo_h96 (L := L) hn ?_ ?_
    · rcases hrp with e | ⟨c, hc, e⟩
      · exact Or.inl e
      · refine Or.inr ⟨c, hc, e, hNE c hc, ?_⟩
        obtain ⟨b1, b2, b3, b4, b5, b6⟩ := (P1 c hc).1 (fun z => fo_i_lr I hn hc z e)
        rw [b2, b3, b4]
        exact hAG c hc
    · intro vl2 su2 ls2 wh2 pd2 co2 P2
      rw [con] at P2
      have K : ∀ m, m < 24 → (lf n = nI m ∨ rt n = nI m) → vl2 m = co n ∧ ¬ pd2 m = 0 ∧ co2 m = co n ∧ fo_AG (sz m) (su2 m) (ls2 m) (wh2 m) hg (fo_mp (co n) (L m)) := by
        intro m hm hc
        by_cases r : rt n = nI m
        · exact (P2 m hm).2 r
        · have l : lf n = nI m := hc.resolve_right r
          obtain ⟨b1, b2, b3, b4, b5, b6⟩ := (P2 m hm).1 r
          rw [b1, b2, b3, b4, b5, b6]
          exact (P1 m hm).2 l
      have N : ∀ m, m < 24 → ¬ (lf n = nI m ∨ rt n = nI m) → vl2 m = vl m ∧ su2 m = su m ∧ ls2 m = ls m ∧ wh2 m = wh m ∧ pd2 m = pd m ∧ co2 m = co m := by
        intro m hm hc
        obtain ⟨b1, b2, b3, b4, b5, b6⟩ := (P2 m hm).1 (fun z => hc (Or.inr z))
        obtain ⟨c1, c2, c3, c4, c5, c6⟩ := (P1 m hm).1 (fun z => hc (Or.inl z))
        exact ⟨b1.trans c1, b2.trans c2, b3.trans c3, b4.trans c4, b5.trans c5, b6.trans c6⟩
      have nch : ¬ (lf n = nI n ∨ rt n = nI n) := fun z => z.elim nl nr
      have LOm : ∀ x, (x = lf n ∨ x = rt n) → fo_LO (fun m => if lf n = nI m ∨ rt n = nI m then fo_mp (co n) (L m) else L m) x = fo_mp (co n) (fo_LO L x) := by
        intro x hx
        have px : fo_px x := by
          rcases hx with e | e
          · rw [e]; exact hlp
          · rw [e]; exact hrp
        rcases px with e | ⟨c, hc, e⟩
        · rw [e, fo_LO_n, fo_LO_n]; rfl
        · rw [e, fo_LO_s _ hc, fo_LO_s _ hc]
          refine if_pos ?_
          rcases hx with a | a
          · exact Or.inl (a.symm.trans e)
          · exact Or.inr (a.symm.trans e)
      have P := fo_push (u' := (lf, rt, ab, vl2, sz, su2, ls2, wh2, hg, tn, upd pd2 n 0, co2, st)) (L' := fun m => if lf n = nI m ∨ rt n = nI m then fo_mp (co n) (L m) else L m) I hn rfl rfl (fun m _ _ => ⟨rfl, rfl⟩) (Or.inl ⟨rfl, rfl⟩)
        (fun m hm c => if_neg c)
        (fun m hm c ne => ⟨(N m hm c).1, rfl, (fo_un ne).trans (N m hm c).2.2.2.2.1, (N m hm c).2.2.2.2.2⟩)
        (fun m hm c => ⟨rfl, (N m hm c).2.1, (N m hm c).2.2.1, (N m hm c).2.2.2.1⟩)
        (by
          intro m hm c
          have c' : lf n = nI m ∨ rt n = nI m := c
          obtain ⟨k1, k2, k3, k4⟩ := K m hm c'
          have mn : m ≠ n := fo_i_chne I hn hm c
          rw [if_pos c']
          refine ⟨k4, ?_, ?_, ?_⟩
          · show fo_mp (co n) (L m) = fo_tw (tn m) (fo_pn (upd pd2 n 0 m) (co2 m) (fo_LO L (lf m)) ++ (m, vl2 m) :: fo_pn (upd pd2 n 0 m) (co2 m) (fo_LO L (rt m)))
            rw [fo_un mn, k1, k3, fo_pn1 k2, fo_pn1 k2, fo_i_cn I hm, fo_mp_tw, fo_mp_app]
            show fo_tw (tn m) (fo_mp (co n) (fo_pn (pd m) (co m) (fo_LO L (lf m))) ++ (m, co n) :: fo_mp (co n) (fo_pn (pd m) (co m) (fo_LO L (rt m)))) = _
            rw [fo_mp_pn, fo_mp_pn]
          · rw [fo_ns_mp]
            exact fo_i_nd I hm
          · intro x
            rw [fo_ns_mp])
        (by
          show L n = fo_tw (tn n) (fo_pn (upd pd2 n 0 n) (co2 n) (fo_LO _ (lf n)) ++ (n, vl2 n) :: fo_pn (upd pd2 n 0 n) (co2 n) (fo_LO _ (rt n)))
          rw [LOm _ (Or.inl rfl), LOm _ (Or.inr rfl), fo_us, fo_pn0, fo_pn0, (N n hn nch).1, fo_i_cn I hn]
          show fo_tw (tn n) (fo_pn (pd n) (co n) (fo_LO L (lf n)) ++ (n, vl n) :: fo_pn (pd n) (co n) (fo_LO L (rt n))) = _
          rw [fo_pn1 hp, fo_pn1 hp])
      obtain ⟨J, m1, m2⟩ := P
      refine H _ _ J ⟨rfl, rfl, m1, m2, fun m hm c ne => ⟨rfl, (fo_un ne).trans (N m hm c).2.2.2.2.1⟩, fun m hm c => if_neg c⟩ ⟨ht, fo_us⟩
  rcases hlp with e | ⟨c, hc, e⟩
  · refine br_t (by rw [e]; exact fo_neg) (fin vl su ls wh pd co ?_)
    rw [e]
    exact fo_PF_m1
  · exact br_f (by rw [e]; exact fo_nn hc) ⟨fo_in hn, fo_in hn, fo_pf (L := L) (co n) hc e (hNE c hc) (hAG c hc) fun vl' su' ls' wh' pd' co' hp => fin vl' su' ls' wh' pd' co' hp⟩
theorem fo_hd0 {post : SX → Prop} (I : fo_INV (lf, rt, ab, vl, sz, su, ls, wh, hg, tn, pd, co, st) L pa va sb) (hn : n < 24)
    (H : ∀ u' L', fo_INV u' L' pa va sb → fo_HR n (lf, rt, ab, vl, sz, su, ls, wh, hg, tn, pd, co, st) L u' L' → fo_clr u' n → post u') : wpX_handDown post (lf, rt, ab, vl, sz, su, ls, wh, hg, tn, pd, co, st) (nI n) := by
  have hlp : fo_px (lf n) := fo_i_lf I hn
  have hrp : fo_px (rt n) := fo_i_rt I hn
  unfold wpX_handDown
  dsimp only
  rw [fo_cl hn]
  refine ⟨fo_in hn, br_c (fun ht => fo_h62 I hn ht H) fun ht => ⟨fo_in hn, fun l0 e0 => ⟨fo_in hn, fo_in hn, fun lf1 e1 => ⟨fo_in hn, fun rt1 e2 => ⟨fo_in hn, ?_⟩⟩⟩⟩⟩
  subst e0 e1 e2
  have nl : lf n ≠ nI n := fun e => fo_i_chne I hn hn (Or.inl e) rfl
  have nr : rt n ≠ nI n := fun e => fo_i_chne I hn hn (Or.inr e) rfl
  refine fo_tp (by rw [fo_us]; exact hrp) fun tn1 T1 => ?_
  dsimp only
  refine ⟨fo_in hn, ?_⟩
  refine fo_tp (by rw [fo_us]; exact hlp) fun tn2 T2 => ?_
  dsimp only
  refine ⟨fo_in hn, fun tn3 e3 => ?_⟩
  rw [fo_b0] at e3
  rw [fo_us] at T1 T2
  have K : ∀ m, m < 24 → (lf n = nI m ∨ rt n = nI m) → (tn3 m = 0 ↔ ¬ tn m = 0) := by
    intro m hm hc
    have mn : m ≠ n := fo_i_chne I hn hm hc
    rw [e3, fo_un mn]
    by_cases l : lf n = nI m
    · rw [(T2 m hm).2 l, (T1 m hm).1 (fo_i_lr I hn hm l)]
    · rw [(T2 m hm).1 l, (T1 m hm).2 (hc.resolve_left l)]
  have N : ∀ m, m < 24 → ¬ (lf n = nI m ∨ rt n = nI m) → m ≠ n → tn3 m = tn m := by
    intro m hm hc mn
    rw [e3, fo_un mn, (T2 m hm).1 (fun z => hc (Or.inl z)), (T1 m hm).1 (fun z => hc (Or.inr z))]
  have LOm : ∀ x, (x = lf n ∨ x = rt n) → fo_LO (fun m => if lf n = nI m ∨ rt n = nI m then (L m).reverse else L m) x = (fo_LO L x).reverse := by
    intro x hx
    have px : fo_px x := by
      rcases hx with e | e
      · rw [e]; exact hlp
      · rw [e]; exact hrp
    rcases px with e | ⟨c, hc, e⟩
    · rw [e, fo_LO_n, fo_LO_n]; rfl
    · rw [e, fo_LO_s _ hc, fo_LO_s _ hc]
      refine if_pos ?_
      rcases hx with a | a
      · exact Or.inl (a.symm.trans e)
      · exact Or.inr (a.symm.trans e)
  have t0 : tn3 n = 0 := by rw [e3, fo_us]
  have P := fo_push (u' := (upd lf n (rt n), upd rt n (lf n), ab, vl, sz, su, ls, wh, hg, tn3, pd, co, st)) (L' := fun m => if lf n = nI m ∨ rt n = nI m then (L m).reverse else L m) I hn rfl rfl (fun m _ ne => ⟨fo_un ne, fo_un ne⟩) (Or.inr ⟨fo_us, fo_us⟩)
    (fun m hm c => if_neg c)
    (fun m hm c ne => ⟨rfl, N m hm c ne, rfl, rfl⟩)
    (fun m hm c => ⟨rfl, rfl, rfl, rfl⟩)
    (by
      intro m hm c
      have c' : lf n = nI m ∨ rt n = nI m := c
      rw [if_pos c']
      refine ⟨fo_AG_rev (fo_i_ag I hm), ?_, ?_, ?_⟩
      · show (L m).reverse = fo_tw (tn3 m) (fo_pn (pd m) (co m) (fo_LO L (lf m)) ++ (m, vl m) :: fo_pn (pd m) (co m) (fo_LO L (rt m)))
        rw [fo_i_cn I hm]
        exact fo_tw_rev (K m hm c') _
      · rw [fo_ns_rev]
        exact (List.reverse_perm _).symm.nodup (fo_i_nd I hm)
      · intro x
        rw [fo_ns_rev, List.mem_reverse])
    (by
      show L n = fo_tw (tn3 n) (fo_pn (pd n) (co n) (fo_LO _ (upd lf n (rt n) n)) ++ (n, vl n) :: fo_pn (pd n) (co n) (fo_LO _ (upd rt n (lf n) n)))
      rw [fo_us, fo_us, LOm _ (Or.inl rfl), LOm _ (Or.inr rfl), t0, fo_tw0, ← fo_pn_rev, ← fo_pn_rev, fo_i_cn I hn]
      show fo_tw (tn n) (fo_pn (pd n) (co n) (fo_LO L (lf n)) ++ (n, vl n) :: fo_pn (pd n) (co n) (fo_LO L (rt n))) = _
      rw [fo_tw1 ht, List.reverse_append, List.reverse_cons, List.append_assoc]
      rfl)
  obtain ⟨J, m1, m2⟩ := P
  have R1 : fo_HR n (lf, rt, ab, vl, sz, su, ls, wh, hg, tn, pd, co, st) L (upd lf n (rt n), upd rt n (lf n), ab, vl, sz, su, ls, wh, hg, tn3, pd, co, st) (fun m => if lf n = nI m ∨ rt n = nI m then (L m).reverse else L m) :=
    ⟨rfl, rfl, m1, m2, fun m hm c ne => ⟨N m hm c ne, rfl⟩, fun m hm c => if_neg c⟩
  exact fo_h62 J hn t0 fun u' L' J' R' c' => H u' L' J' (fo_HR_trans hn R1 R') c'
end
theorem fo_hd {post : SX → Prop} {u : SX} {L : Nat → List (Nat × Int32)} {n : Nat} (I : fo_INV u L pa va sb) (hn : n < 24)
    (H : ∀ u' L', fo_INV u' L' pa va sb → fo_HR n u L u' L' → fo_clr u' n → post u') : wpX_handDown post u (nI n) := by
  obtain ⟨lf, rt, ab, vl, sz, su, ls, wh, hg, tn, pd, co, st⟩ := u
  exact fo_hd0 I hn H
end
end
section
/-! one step up: the shape. P is the side on which n hangs below p, Q the other one -/
section
variable {P Q ab P' Q' ab' : Nat → Int32} {n p : Nat}
def fo_RS (P Q ab P' Q' ab' : Nat → Int32) (n p : Nat) : Prop :=
  (∀ m, m < 24 → fo_px (P m) ∧ fo_px (Q m) ∧ fo_px (ab m)) ∧
  (∀ m c, m < 24 → c < 24 → (P m = nI c ∨ Q m = nI c) → ab c = nI m ∧ c ≠ m) ∧
  (∀ m c, m < 24 → c < 24 → P m = nI c → ¬ Q m = nI c) ∧ n < 24 ∧ p < 24 ∧ P p = nI n ∧ ¬ (P n = nI p ∨ Q n = nI p) ∧
  P' p = Q n ∧ Q' n = nI p ∧ Q' p = Q p ∧ P' n = P n ∧
  (∀ m, m < 24 → m ≠ p → m ≠ n → P' m = (if P m = nI p then nI n else P m) ∧ Q' m = (if Q m = nI p then nI n else Q m)) ∧
  ab' p = nI n ∧ ab' n = ab p ∧ (∀ c, c < 24 → c ≠ p → c ≠ n → ab' c = if Q n = nI c then nI p else ab c)
theorem fo_rs1 (H : fo_RS P Q ab P' Q' ab' n p) : ∀ m, m < 24 → fo_px (P' m) ∧ fo_px (Q' m) ∧ fo_px (ab' m) := by
  obtain ⟨px, ch, pq, hn, hp, e, ac, a1, a2, a3, a4, rs, b1, b2, b3⟩ := H
  intro m hm
  have qn : fo_px (nI n) := Or.inr ⟨n, hn, rfl⟩
  have qp : fo_px (nI p) := Or.inr ⟨p, hp, rfl⟩
  by_cases m1 : m = p
  · subst m1
    rw [a1, a3, b1]
    exact ⟨(px n hn).2.1, (px m hm).2.1, qn⟩
  · by_cases m2 : m = n
    · subst m2
      rw [a2, a4, b2]
      exact ⟨(px m hm).1, qp, (px p hp).2.2⟩
    · obtain ⟨r1, r2⟩ := rs m hm m1 m2
      rw [r1, r2, b3 m hm m1 m2]
      refine ⟨?_, ?_, ?_⟩
      · split
        · exact qn
        · exact (px m hm).1
      · split
        · exact qn
        · exact (px m hm).2.1
      · split
        · exact qp
        · exact (px m hm).2.2
theorem fo_rs2 (H : fo_RS P Q ab P' Q' ab' n p) : ∀ m c, m < 24 → c < 24 → (P' m = nI c ∨ Q' m = nI c) → ab' c = nI m := by
  obtain ⟨px, ch, pq, hn, hp, e, ac, a1, a2, a3, a4, rs, b1, b2, b3⟩ := H
  intro m c hm hc h
  have epn := ch p n hp hn (Or.inl e)
  by_cases m1 : m = p
  · subst m1
    rw [a1, a3] at h
    rcases h with h | h
    · obtain ⟨c1, c2⟩ := ch n c hn hc (Or.inr h)
      have c3 : c ≠ m := fun z => ac (Or.inr (by rw [← z]; exact h))
      rw [b3 c hc c3 c2, if_pos h]
    · obtain ⟨c1, c2⟩ := ch m c hm hc (Or.inr h)
      have c3 : c ≠ n := fun z => pq m n hm hn e (by rw [← z]; exact h)
      rw [b3 c hc c2 c3, if_neg, c1]
      intro z
      have := (ch n c hn hc (Or.inr z)).1
      exact epn.2 (fo_ij hn hm (this.symm.trans c1))
  · by_cases m2 : m = n
    · subst m2
      rw [a2, a4] at h
      rcases h with h | h
      · obtain ⟨c1, c2⟩ := ch m c hm hc (Or.inl h)
        have c3 : c ≠ p := fun z => ac (Or.inl (by rw [← z]; exact h))
        rw [b3 c hc c3 c2, if_neg (pq m c hm hc h), c1]
      · have := fo_ij hp hc h
        subst this
        exact b1
    · obtain ⟨r1, r2⟩ := rs m hm m1 m2
      have key : ∀ x, (x = P m ∨ x = Q m) → (if x = nI p then nI n else x) = nI c → ab' c = nI m := by
        intro x hx hxc
        by_cases z : x = nI p
        · rw [if_pos z] at hxc
          have := fo_ij hn hc hxc
          subst this
          rw [b2]
          refine (ch m p hm hp ?_).1
          rcases hx with a | a
          · exact Or.inl (a.symm.trans z)
          · exact Or.inr (a.symm.trans z)
        · rw [if_neg z] at hxc
          have hmc : P m = nI c ∨ Q m = nI c := by
            rcases hx with a | a
            · exact Or.inl (a.symm.trans hxc)
            · exact Or.inr (a.symm.trans hxc)
          have c1 := (ch m c hm hc hmc).1
          have d1 : c ≠ p := fun q => z (by rw [hxc, q])
          have d2 : c ≠ n := fun q => by
            subst q
            exact m1 (fo_ij hm hp (c1.symm.trans epn.1))
          rw [b3 c hc d1 d2, if_neg, c1]
          intro q
          exact m2 (fo_ij hm hn (c1.symm.trans (ch n c hn hc (Or.inr q)).1))
      rw [r1, r2] at h
      rcases h with h | h
      · exact key _ (Or.inl rfl) h
      · exact key _ (Or.inr rfl) h
theorem fo_rs3 (H : fo_RS P Q ab P' Q' ab' n p) : ∀ c, c < 24 → c ≠ n → (∃ m, m < 24 ∧ (P m = nI c ∨ Q m = nI c)) → ∃ m, m < 24 ∧ (P' m = nI c ∨ Q' m = nI c) := by
  obtain ⟨px, ch, pq, hn, hp, e, ac, a1, a2, a3, a4, rs, b1, b2, b3⟩ := H
  intro c hc cn ⟨m, hm, h⟩
  by_cases c1 : c = p
  · subst c1
    exact ⟨n, hn, Or.inr a2⟩
  · by_cases m1 : m = p
    · subst m1
      rcases h with h | h
      · exact absurd (fo_ij hn hc (e.symm.trans h)).symm cn
      · exact ⟨m, hm, Or.inr (a3.trans h)⟩
    · by_cases m2 : m = n
      · subst m2
        rcases h with h | h
        · exact ⟨m, hm, Or.inl (a4.trans h)⟩
        · exact ⟨p, hp, Or.inl (a1.trans h)⟩
      · obtain ⟨r1, r2⟩ := rs m hm m1 m2
        refine ⟨m, hm, ?_⟩
        rw [r1, r2]
        rcases h with h | h
        · rw [h, if_neg (fo_ne hc hp c1)]
          exact Or.inl rfl
        · rw [h, if_neg (fo_ne hc hp c1)]
          exact Or.inr rfl
theorem fo_rs4 (H : fo_RS P Q ab P' Q' ab' n p) : ∀ c, c < 24 → c ≠ p → c ≠ n → (∃ m, m < 24 ∧ (P' m = nI c ∨ Q' m = nI c)) → ∃ m, m < 24 ∧ (P m = nI c ∨ Q m = nI c) := by
  obtain ⟨px, ch, pq, hn, hp, e, ac, a1, a2, a3, a4, rs, b1, b2, b3⟩ := H
  intro c hc cp cn ⟨m, hm, h⟩
  by_cases m1 : m = p
  · subst m1
    rw [a1, a3] at h
    rcases h with h | h
    · exact ⟨n, hn, Or.inr h⟩
    · exact ⟨m, hm, Or.inr h⟩
  · by_cases m2 : m = n
    · subst m2
      rw [a2, a4] at h
      rcases h with h | h
      · exact ⟨m, hm, Or.inl h⟩
      · exact absurd (fo_ij hp hc h).symm cp
    · obtain ⟨r1, r2⟩ := rs m hm m1 m2
      rw [r1, r2] at h
      refine ⟨m, hm, ?_⟩
      rcases h with h | h
      · split at h
        · exact absurd (fo_ij hn hc h).symm cn
        · exact Or.inl h
      · split at h
        · exact absurd (fo_ij hn hc h).symm cn
        · exact Or.inr h
theorem fo_rs5 (H : fo_RS P Q ab P' Q' ab' n p) : (∃ m, m < 24 ∧ (P' m = nI n ∨ Q' m = nI n)) ↔ ∃ m, m < 24 ∧ (P m = nI p ∨ Q m = nI p) := by
  obtain ⟨px, ch, pq, hn, hp, e, ac, a1, a2, a3, a4, rs, b1, b2, b3⟩ := H
  have epn := ch p n hp hn (Or.inl e)
  constructor
  · intro ⟨m, hm, h⟩
    by_cases m1 : m = p
    · subst m1
      rw [a1, a3] at h
      rcases h with h | h
      · exact absurd rfl (ch n n hn hn (Or.inr h)).2
      · exact absurd h (pq m n hm hn e)
    · by_cases m2 : m = n
      · subst m2
        rw [a2, a4] at h
        rcases h with h | h
        · exact absurd rfl (ch m m hm hm (Or.inl h)).2
        · exact absurd (fo_ij hp hm h).symm epn.2
      · obtain ⟨r1, r2⟩ := rs m hm m1 m2
        rw [r1, r2] at h
        refine ⟨m, hm, ?_⟩
        rcases h with h | h
        · split at h
          · rename_i z
            exact Or.inl z
          · exact absurd (fo_ij hm hp ((ch m n hm hn (Or.inl h)).1.symm.trans epn.1)) m1
        · split at h
          · rename_i z
            exact Or.inr z
          · exact absurd (fo_ij hm hp ((ch m n hm hn (Or.inr h)).1.symm.trans epn.1)) m1
  · intro ⟨m, hm, h⟩
    have m1 : m ≠ p := fun z => by
      subst z
      exact (ch m m hm hm h).2 rfl
    have m2 : m ≠ n := fun z => by
      subst z
      exact ac h
    obtain ⟨r1, r2⟩ := rs m hm m1 m2
    refine ⟨m, hm, ?_⟩
    rw [r1, r2]
    rcases h with h | h
    · rw [if_pos h]
      exact Or.inl rfl
    · rw [if_pos h]
      exact Or.inr rfl
end
end
section
/-! one step up: the contents -/
section
variable {pa va sb : Nat → Int32}
theorem fo_ntop {u : SX} {c : Nat} : ¬ fo_top u c ↔ ∃ m, m < 24 ∧ fo_ch u m c := by
  constructor
  · intro h
    by_cases e : ∃ m, m < 24 ∧ fo_ch u m c
    · exact e
    · exact absurd (fun m hm z => e ⟨m, hm, z⟩) h
  · intro ⟨m, hm, h⟩ t
    exact t m hm h
def fo_LR (L : Nat → List (Nat × Int32)) (M : List (Nat × Int32)) (n p : Nat) : Nat → List (Nat × Int32) := fun m => if m = n then L p else if m = p then M else L m
theorem fo_LR_n {L : Nat → List (Nat × Int32)} {M : List (Nat × Int32)} {n p : Nat} : fo_LR L M n p n = L p := if_pos rfl
theorem fo_LR_p {L : Nat → List (Nat × Int32)} {M : List (Nat × Int32)} {n p : Nat} (h : p ≠ n) : fo_LR L M n p p = M := (if_neg h).trans (if_pos rfl)
theorem fo_LR_o {L : Nat → List (Nat × Int32)} {M : List (Nat × Int32)} {n p m : Nat} (h : m ≠ n) (h2 : m ≠ p) : fo_LR L M n p m = L m := (if_neg h).trans (if_neg h2)
/-- what one step up at n below p keeps -/
def fo_RR (n p : Nat) (u : SX) (L : Nat → List (Nat × Int32)) (u' : SX) (L' : Nat → List (Nat × Int32)) : Prop :=
  (fo_tn u' = fo_tn u ∧ fo_pd u' = fo_pd u) ∧ L' n = L p ∧ (∀ m, m < 24 → m ≠ n → m ≠ p → L' m = L m) ∧ (∀ x, x ∈ fo_ns (L' p) → x ∈ fo_ns (L p)) ∧ ¬ n ∈ fo_ns (L' p) ∧
  (∀ c, c < 24 → c ≠ n → ¬ fo_top u c → ¬ fo_top u' c) ∧ (∀ t, t < 24 → fo_top u t → t ≠ p → fo_top u' t ∧ fo_ab u' t = fo_ab u t) ∧ (fo_top u' n ↔ fo_top u p) ∧ fo_ab u' n = fo_ab u p
theorem fo_rot {u u' : SX} {L : Nat → List (Nat × Int32)} {M : List (Nat × Int32)} {n p : Nat} (I : fo_INV u L pa va sb) (hn : n < 24) (hp : p < 24) (np : fo_ch u p n)
    (r1 : ∀ m, m < 24 → fo_px (fo_lf u' m) ∧ fo_px (fo_rt u' m) ∧ fo_px (fo_ab u' m))
    (r2 : ∀ m c, m < 24 → c < 24 → fo_ch u' m c → fo_ab u' c = nI m)
    (r3 : ∀ c, c < 24 → c ≠ n → ¬ fo_top u c → ¬ fo_top u' c)
    (r4 : ∀ c, c < 24 → c ≠ p → c ≠ n → fo_top u c → fo_top u' c)
    (r5 : fo_top u' n ↔ fo_top u p) (r6 : ¬ fo_top u' p) (ra : fo_ab u' n = fo_ab u p)
    (rb : ∀ c, c < 24 → c ≠ p → c ≠ n → fo_top u c → fo_ab u' c = fo_ab u c)
    (rl : ∀ m, m < 24 → m ≠ p → m ≠ n → fo_lf u' m = (if fo_lf u m = nI p then nI n else fo_lf u m) ∧ fo_rt u' m = (if fo_rt u m = nI p then nI n else fo_rt u m))
    (etn : fo_tn u' = fo_tn u) (epd : fo_pd u' = fo_pd u) (eco : fo_co u' = fo_co u) (evl : fo_vl u' = fo_vl u) (ehg : fo_hg u' = fo_hg u)
    (kn : fo_clr u n) (kp : fo_clr u p)
    (cp : M = fo_LO (fo_LR L M n p) (fo_lf u' p) ++ (p, fo_vl u p) :: fo_LO (fo_LR L M n p) (fo_rt u' p))
    (cn : L p = fo_LO (fo_LR L M n p) (fo_lf u' n) ++ (n, fo_vl u n) :: fo_LO (fo_LR L M n p) (fo_rt u' n))
    (ndM : (fo_ns M).Nodup) (mM : ∀ x, x ∈ fo_ns M → x ∈ fo_ns (L p)) (nM : ¬ n ∈ fo_ns M)
    (ags : ∀ m, m ≠ n → m ≠ p → fo_sz u' m = fo_sz u m ∧ fo_su u' m = fo_su u m ∧ fo_ls u' m = fo_ls u m ∧ fo_wh u' m = fo_wh u m)
    (agp : fo_AG (fo_sz u' p) (fo_su u' p) (fo_ls u' p) (fo_wh u' p) (fo_hg u) M) (agn : fo_AG (fo_sz u' n) (fo_su u' n) (fo_ls u' n) (fo_wh u' n) (fo_hg u) (L p)) :
    fo_INV u' (fo_LR L M n p) pa va sb ∧ fo_RR n p u L u' (fo_LR L M n p) := by
  have pn : p ≠ n := (fo_i_chne I hp hn np).symm
  have ntn : ¬ fo_top u n := fun t => t p hp np
  have hLO : ∀ m x, m < 24 → m ≠ p → m ≠ n → (x = fo_lf u m ∨ x = fo_rt u m) → fo_LO (fo_LR L M n p) (if x = nI p then nI n else x) = fo_LO L x := by
    intro m x hm m1 m2 hx
    have px : fo_px x := by
      rcases hx with e | e
      · rw [e]; exact fo_i_lf I hm
      · rw [e]; exact fo_i_rt I hm
    rcases px with e | ⟨c, hc, e⟩
    · rw [if_neg (by rw [e]; exact (fo_m1 hp).symm), e, fo_LO_n, fo_LO_n]
    · by_cases cp : c = p
      · rw [cp] at e
        rw [if_pos e, e, fo_LO_s _ hn, fo_LO_s _ hp, fo_LR_n]
      · have cm : fo_ch u m c := by
          rcases hx with a | a
          · exact Or.inl (a.symm.trans e)
          · exact Or.inr (a.symm.trans e)
        have cn : c ≠ n := fun z => by
          subst z
          exact m1 (fo_i_up1 I hm hp hn cm np)
        rw [if_neg (by rw [e]; exact fo_ne hc hp cp), e, fo_LO_s _ hc, fo_LO_s _ hc, fo_LR_o cn cp]
  refine ⟨fun m hm => ⟨r1 m hm, fun c hc h => r2 m c hm hc h, ?_, ?_, ?_, ?_⟩, ⟨etn, epd⟩, fo_LR_n, fun m hm h1 h2 => fo_LR_o h1 h2, ?_, ?_, r3, ?_, ?_⟩
  · rw [etn, epd, eco, evl]
    by_cases m1 : m = p
    · subst m1
      rw [kp.1, kp.2, fo_tw0, fo_pn0, fo_pn0, fo_LR_p pn]
      exact cp
    · by_cases m2 : m = n
      · subst m2
        rw [kn.1, kn.2, fo_tw0, fo_pn0, fo_pn0, fo_LR_n]
        exact cn
      · rw [(rl m hm m1 m2).1, (rl m hm m1 m2).2, hLO m _ hm m1 m2 (Or.inl rfl), hLO m _ hm m1 m2 (Or.inr rfl), fo_LR_o m2 m1]
        exact fo_i_cn I hm
  · by_cases m1 : m = p
    · subst m1
      rw [fo_LR_p pn]
      exact ⟨ndM, fun x hx => fo_i_lt I hp (mM x hx)⟩
    · by_cases m2 : m = n
      · subst m2
        rw [fo_LR_n]
        exact ⟨fo_i_nd I hp, fun x hx => fo_i_lt I hp hx⟩
      · rw [fo_LR_o m2 m1]
        exact (I m hm).2.2.2.1
  · rw [ehg]
    by_cases m1 : m = p
    · subst m1
      rw [fo_LR_p pn]
      exact agp
    · by_cases m2 : m = n
      · subst m2
        rw [fo_LR_n]
        exact agn
      · obtain ⟨a1, a2, a3, a4⟩ := ags m m2 m1
        rw [a1, a2, a3, a4, fo_LR_o m2 m1]
        exact fo_i_ag I hm
  · intro t
    rw [ehg]
    by_cases m2 : m = n
    · subst m2
      rw [fo_LR_n, ra]
      exact fo_i_cs I hp (r5.mp t)
    · have tm : fo_top u m := by
        by_cases z : fo_top u m
        · exact z
        · exact absurd t (r3 m hm m2 z)
      by_cases m1 : m = p
      · subst m1
        exact absurd t r6
      · rw [fo_LR_o m2 m1, rb m hm m1 m2 tm]
        exact fo_i_cs I hm tm
  · rw [fo_LR_p pn]
    exact mM
  · rw [fo_LR_p pn]
    exact nM
  · intro t ht tt tp
    have tn : t ≠ n := fun z => by
      subst z
      exact ntn tt
    exact ⟨r4 t ht tp tn tt, rb t ht tp tn tt⟩
  · exact ⟨r5, ra⟩
end
end
section
/-! one step up: the walk -/
section
variable {pa va sb : Nat → Int32} {lf rt ab vl sz su ls wh hg tn pd co st : Nat → Int32} {L : Nat → List (Nat × Int32)} {n p : Nat}
theorem fo_r157 {post : SX → Prop} (hn : n < 24) (hp : p < 24) (pn : p ≠ n) (M : List (Nat × Int32)) (hA : ∀ c, c < 24 → fo_AG (sz c) (su c) (ls c) (wh c) hg (L c))
    (q1 : fo_px (lf p) ∧ lf p ≠ nI p ∧ lf p ≠ nI n) (q2 : fo_px (rt p) ∧ rt p ≠ nI p ∧ rt p ≠ nI n) (q3 : fo_px (lf n) ∧ lf n ≠ nI n) (q4 : fo_px (rt n) ∧ rt n ≠ nI n)
    (eM : M = fo_LO L (lf p) ++ (p, vl p) :: fo_LO L (rt p))
    (H : ∀ sz' su' ls' wh' : Nat → Int32, (∀ j, j ≠ n → j ≠ p → sz' j = sz j ∧ su' j = su j ∧ ls' j = ls j ∧ wh' j = wh j) → fo_AG (sz' p) (su' p) (ls' p) (wh' p) hg M → fo_AG (sz' n) (su' n) (ls' n) (wh' n) hg (fo_LO (fo_LR L M n p) (lf n) ++ (n, vl n) :: fo_LO (fo_LR L M n p) (rt n)) → post (lf, rt, ab, vl, sz', su', ls', wh', hg, tn, pd, co, st)) :
    wX_rotate_157 post (nI n) (nI p) lf rt ab vl sz su ls wh hg tn pd co st := by
  unfold wX_rotate_157
  have g1 : ∀ x : Int32, fo_px x ∧ x ≠ nI p → (x = -1 ∨ ∃ c, c < 24 ∧ c ≠ p ∧ x = nI c ∧ fo_AG (sz c) (su c) (ls c) (wh c) hg (L c)) := by
    intro x ⟨hx, ne⟩
    rcases hx with e | ⟨c, hc, e⟩
    · exact Or.inl e
    · exact Or.inr ⟨c, hc, fun z => ne (by rw [e, z]), e, hA c hc⟩
  refine fo_ga (L := L) hp (g1 _ ⟨q1.1, q1.2.1⟩) (g1 _ ⟨q2.1, q2.2.1⟩) fun sz1 su1 ls1 wh1 s1 a1 => ?_
  dsimp only
  rw [← eM] at a1
  have g2 : ∀ x : Int32, fo_px x ∧ x ≠ nI n → (x = -1 ∨ ∃ c, c < 24 ∧ c ≠ n ∧ x = nI c ∧ fo_AG (sz1 c) (su1 c) (ls1 c) (wh1 c) hg (fo_LR L M n p c)) := by
    intro x ⟨hx, ne⟩
    rcases hx with e | ⟨c, hc, e⟩
    · exact Or.inl e
    · have cn : c ≠ n := fun z => ne (by rw [e, z])
      refine Or.inr ⟨c, hc, cn, e, ?_⟩
      by_cases cp : c = p
      · subst cp
        rw [fo_LR_p pn]
        exact a1
      · obtain ⟨b1, b2, b3, b4⟩ := s1 c cp
        rw [b1, b2, b3, b4, fo_LR_o cn cp]
        exact hA c hc
  refine fo_ga (L := fo_LR L M n p) hn (g2 _ q3) (g2 _ q4) fun sz2 su2 ls2 wh2 s2 a2 => ?_
  dsimp only
  refine H sz2 su2 ls2 wh2 (fun j j1 j2 => ?_) ?_ a2
  · obtain ⟨b1, b2, b3, b4⟩ := s1 j j2
    obtain ⟨c1, c2, c3, c4⟩ := s2 j j1
    exact ⟨c1.trans b1, c2.trans b2, c3.trans b3, c4.trans b4⟩
  · obtain ⟨c1, c2, c3, c4⟩ := s2 p pn
    rw [c1, c2, c3, c4]
    exact a1
theorem fo_r98 {post : SX → Prop} (I : fo_INV (lf, rt, ab, vl, sz, su, ls, wh, hg, tn, pd, co, st) L pa va sb) (hn : n < 24) (hp : p < 24) (pn : p ≠ n) (ac : ¬ fo_ch (lf, rt, ab, vl, sz, su, ls, wh, hg, tn, pd, co, st) n p) {lf1 rt1 : Nat → Int32} (h1 : ∀ m, m < 24 → m ≠ p → m ≠ n → lf1 m = lf m ∧ rt1 m = rt m) {mv x4 : Int32} (hm : fo_px mv) (hmn : mv ≠ nI p ∧ mv ≠ nI n) (h4 : (x4 = 1 ∧ fo_top (lf, rt, ab, vl, sz, su, ls, wh, hg, tn, pd, co, st) p) ∨ (x4 = 0 ∧ ¬ fo_top (lf, rt, ab, vl, sz, su, ls, wh, hg, tn, pd, co, st) p))
    (H : ∀ lf2 rt2 ab2 : Nat → Int32, (lf2 p = lf1 p ∧ lf2 n = lf1 n ∧ rt2 p = rt1 p ∧ rt2 n = rt1 n) → (∀ m, m < 24 → m ≠ p → m ≠ n → lf2 m = (if lf m = nI p then nI n else lf m) ∧ rt2 m = (if rt m = nI p then nI n else rt m)) → ab2 p = nI n → ab2 n = ab p → (∀ c, c < 24 → c ≠ p → c ≠ n → ab2 c = if mv = nI c then nI p else ab c) → wX_rotate_157 post (nI n) (nI p) lf2 rt2 ab2 vl sz su ls wh hg tn pd co st) :
    wX_rotate_98 post (nI n) (nI p) (ab p) x4 mv lf1 rt1 ab vl sz su ls wh hg tn pd co st := by
  have key : ∀ ab1 : Nat → Int32, (∀ c, c < 24 → c ≠ p → c ≠ n → ab1 c = if mv = nI c then nI p else ab c) → wX_rotate_111 post (nI n) (nI p) (ab p) x4 lf1 rt1 ab1 vl sz su ls wh hg tn pd co st := by
    intro ab1 hab
    unfold wX_rotate_111
    refine ⟨fo_in hp, fun ab2 e2 => ⟨fo_in hn, fun ab3 e3 => ?_⟩⟩
    rw [fo_cl hp] at e2
    rw [fo_cl hn] at e3
    have t1 : ab3 p = nI n := by rw [e3, fo_un pn, e2, fo_us]
    have t2 : ab3 n = ab p := by rw [e3, fo_us]
    have t3 : ∀ c, c < 24 → c ≠ p → c ≠ n → ab3 c = if mv = nI c then nI p else ab c := by
      intro c hc c1 c2
      rw [e3, fo_un c2, e2, fo_un c1]
      exact hab c hc c1 c2
    rcases h4 with ⟨h4, ht⟩ | ⟨h4, ht⟩
    · refine br_f (by rw [h4]; exact fo_10) (H lf1 rt1 ab3 ⟨rfl, rfl, rfl, rfl⟩ (fun m hm m1 m2 => ?_) t1 t2 t3)
      obtain ⟨a1, a2⟩ := h1 m hm m1 m2
      rw [if_neg (fun z => ht m hm (Or.inl z)), if_neg (fun z => ht m hm (Or.inr z))]
      exact ⟨a1, a2⟩
    · obtain ⟨g, hg1, hg2, hg3⟩ := fo_i_abv I hp ht
      have hg2' : ab p = nI g := hg2
      have gp : g ≠ p := fun z => by
        subst z
        exact fo_i_chne I hp hp hg3 rfl
      have gn : g ≠ n := fun z => by
        subst z
        exact ac hg3
      obtain ⟨d1, d2⟩ := h1 g hg1 gp gn
      have uq : ∀ m, m < 24 → (lf m = nI p ∨ rt m = nI p) → m = g := fun m hm h => fo_i_up1 I hm hg1 hp h hg3
      refine br_t h4 ?_
      rw [hg2', fo_cl hg1]
      refine ⟨fo_in hg1, br_c (fun z => ⟨fo_in hg1, fun lf2 e4 => ?_⟩) (fun z => ⟨fo_in hg1, fun rt2 e4 => ?_⟩)⟩
      · rw [d1] at z
        have nz : ¬ rt g = nI p := fo_i_lr I hg1 hp z
        refine H lf2 rt1 ab3 ⟨by rw [e4, fo_un gp.symm], by rw [e4, fo_un gn.symm], rfl, rfl⟩ (fun m hm m1 m2 => ?_) t1 t2 t3
        obtain ⟨a1, a2⟩ := h1 m hm m1 m2
        by_cases mg : m = g
        · subst mg
          rw [e4, fo_us, if_pos z, if_neg nz]
          exact ⟨rfl, a2⟩
        · rw [e4, fo_un mg, if_neg (fun q => mg (uq m hm (Or.inl q))), if_neg (fun q => mg (uq m hm (Or.inr q)))]
          exact ⟨a1, a2⟩
      · rw [d1] at z
        have nz : rt g = nI p := hg3.resolve_left z
        refine H lf1 rt2 ab3 ⟨rfl, rfl, by rw [e4, fo_un gp.symm], by rw [e4, fo_un gn.symm]⟩ (fun m hm m1 m2 => ?_) t1 t2 t3
        obtain ⟨a1, a2⟩ := h1 m hm m1 m2
        by_cases mg : m = g
        · subst mg
          rw [e4, fo_us, if_neg z, if_pos nz]
          exact ⟨a1, rfl⟩
        · rw [e4, fo_un mg, if_neg (fun q => mg (uq m hm (Or.inl q))), if_neg (fun q => mg (uq m hm (Or.inr q)))]
          exact ⟨a1, a2⟩
  unfold wX_rotate_98
  rcases hm with e | ⟨c, hc, e⟩
  · refine br_t (by rw [e]; exact fo_neg) (key ab fun c hc _ _ => ?_)
    rw [if_neg]
    rw [e]
    exact (fo_m1 hc).symm
  · refine br_f (by rw [e]; exact fo_nn hc) ?_
    rw [e, fo_cl hc]
    refine ⟨fo_in hc, fun ab1 e1 => key ab1 fun d hd d1 d2 => ?_⟩
    by_cases dc : d = c
    · subst dc
      rw [if_pos e, e1, fo_us]
    · rw [e, if_neg (fo_ne hc hd (Ne.symm dc)), e1, fo_un dc]
end
end
section
/-! one step up: the method -/
section
variable {pa va sb : Nat → Int32}
theorem fo_rotAB {u u' : SX} {P Q P' Q' : Nat → Int32} {n p : Nat} (hAB : (P = fo_lf u ∧ Q = fo_rt u ∧ P' = fo_lf u' ∧ Q' = fo_rt u') ∨ (P = fo_rt u ∧ Q = fo_lf u ∧ P' = fo_rt u' ∧ Q' = fo_lf u')) (R : fo_RS P Q (fo_ab u) P' Q' (fo_ab u') n p) :
    (∀ m, m < 24 → fo_px (fo_lf u' m) ∧ fo_px (fo_rt u' m) ∧ fo_px (fo_ab u' m)) ∧ (∀ m c, m < 24 → c < 24 → fo_ch u' m c → fo_ab u' c = nI m) ∧ (∀ c, c < 24 → c ≠ n → ¬ fo_top u c → ¬ fo_top u' c) ∧ (∀ c, c < 24 → c ≠ p → c ≠ n → fo_top u c → fo_top u' c) ∧ (fo_top u' n ↔ fo_top u p) ∧ (¬ fo_top u' p) ∧ fo_ab u' n = fo_ab u p ∧
    (∀ c, c < 24 → c ≠ p → c ≠ n → fo_top u c → fo_ab u' c = fo_ab u c) ∧ (∀ m, m < 24 → m ≠ p → m ≠ n → fo_lf u' m = (if fo_lf u m = nI p then nI n else fo_lf u m) ∧ fo_rt u' m = (if fo_rt u m = nI p then nI n else fo_rt u m)) := by
  have hc : ∀ m c, fo_ch u m c ↔ (P m = nI c ∨ Q m = nI c) := by
    intro m c
    rcases hAB with ⟨e1, e2, _, _⟩ | ⟨e1, e2, _, _⟩
    · rw [e1, e2]; exact Iff.rfl
    · rw [e1, e2]; exact or_comm
  have hc' : ∀ m c, fo_ch u' m c ↔ (P' m = nI c ∨ Q' m = nI c) := by
    intro m c
    rcases hAB with ⟨_, _, e1, e2⟩ | ⟨_, _, e1, e2⟩
    · rw [e1, e2]; exact Iff.rfl
    · rw [e1, e2]; exact or_comm
  have ht : ∀ c, ¬ fo_top u c ↔ ∃ m, m < 24 ∧ (P m = nI c ∨ Q m = nI c) := by
    intro c
    rw [fo_ntop]
    exact ⟨fun ⟨m, hm, h⟩ => ⟨m, hm, (hc m c).mp h⟩, fun ⟨m, hm, h⟩ => ⟨m, hm, (hc m c).mpr h⟩⟩
  have ht' : ∀ c, ¬ fo_top u' c ↔ ∃ m, m < 24 ∧ (P' m = nI c ∨ Q' m = nI c) := by
    intro c
    rw [fo_ntop]
    exact ⟨fun ⟨m, hm, h⟩ => ⟨m, hm, (hc' m c).mp h⟩, fun ⟨m, hm, h⟩ => ⟨m, hm, (hc' m c).mpr h⟩⟩
  have hn : n < 24 := R.2.2.2.1
  have a2 : Q' n = nI p := R.2.2.2.2.2.2.2.2.1
  have rs := R.2.2.2.2.2.2.2.2.2.2.2.1
  have b2 := R.2.2.2.2.2.2.2.2.2.2.2.2.2.1
  have b3 := R.2.2.2.2.2.2.2.2.2.2.2.2.2.2
  refine ⟨?_, fun m c hm hc1 h => fo_rs2 R m c hm hc1 ((hc' m c).mp h), fun c hc1 c1 h => (ht' c).mpr (fo_rs3 R c hc1 c1 ((ht c).mp h)), ?_, ?_, (ht' p).mpr ⟨n, hn, Or.inr a2⟩, b2, ?_, ?_⟩
  · intro m hm
    have h := fo_rs1 R m hm
    rcases hAB with ⟨_, _, e1, e2⟩ | ⟨_, _, e1, e2⟩
    · rw [e1, e2] at h; exact h
    · rw [e1, e2] at h; exact ⟨h.2.1, h.1, h.2.2⟩
  · intro c hc1 c1 c2 t
    by_cases z : fo_top u' c
    · exact z
    · exact absurd t ((ht c).mpr (fo_rs4 R c hc1 c1 c2 ((ht' c).mp z)))
  · have h5 := fo_rs5 R
    rw [← ht', ← ht] at h5
    constructor
    · intro t
      by_cases z : fo_top u p
      · exact z
      · exact absurd t (h5.mpr z)
    · intro t
      by_cases z : fo_top u' n
      · exact z
      · exact absurd t (h5.mp z)
  · intro c hc1 c1 c2 t
    rw [b3 c hc1 c1 c2, if_neg]
    intro z
    exact t n hn ((hc n c).mpr (Or.inr z))
  · intro m hm m1 m2
    have h := rs m hm m1 m2
    rcases hAB with ⟨e1, e2, e3, e4⟩ | ⟨e1, e2, e3, e4⟩
    · rw [e1, e2, e3, e4] at h; exact h
    · rw [e1, e2, e3, e4] at h; exact ⟨h.2, h.1⟩
section
variable {lf rt ab vl sz su ls wh hg tn pd co st : Nat → Int32} {L : Nat → List (Nat × Int32)} {n p : Nat}
theorem fo_LOr {M : List (Nat × Int32)} {x : Int32} (hx : fo_px x) (h1 : x ≠ nI n) (h2 : x ≠ nI p) : fo_LO (fo_LR L M n p) x = fo_LO L x := by
  rcases hx with e | ⟨c, hc, e⟩
  · rw [e, fo_LO_n, fo_LO_n]
  · rw [e, fo_LO_s _ hc, fo_LO_s _ hc, fo_LR_o (fun z => h1 (by rw [e, z])) (fun z => h2 (by rw [e, z]))]
theorem fo_ro0 {post : SX → Prop} (I : fo_INV (lf, rt, ab, vl, sz, su, ls, wh, hg, tn, pd, co, st) L pa va sb) (hn : n < 24) (hp : p < 24) (np : fo_ch (lf, rt, ab, vl, sz, su, ls, wh, hg, tn, pd, co, st) p n) (kn : fo_clr (lf, rt, ab, vl, sz, su, ls, wh, hg, tn, pd, co, st) n) (kp : fo_clr (lf, rt, ab, vl, sz, su, ls, wh, hg, tn, pd, co, st) p)
    (H : ∀ u' L', fo_INV u' L' pa va sb → fo_RR n p (lf, rt, ab, vl, sz, su, ls, wh, hg, tn, pd, co, st) L u' L' → post u') : wpX_rotate post (lf, rt, ab, vl, sz, su, ls, wh, hg, tn, pd, co, st) (nI n) := by
  have pn : p ≠ n := (fo_i_chne I hp hn np).symm
  have eab : ab n = nI p := fo_i_ch I hp hn np
  have ac : ¬ fo_ch (lf, rt, ab, vl, sz, su, ls, wh, hg, tn, pd, co, st) n p := fun z => by
    have l1 := (fo_i_sub I hp hn np).2.1
    have l2 := (fo_i_sub I hn hp z).2.1
    omega
  have acl : lf n ≠ nI p := fun z => ac (Or.inl z)
  have acr : rt n ≠ nI p := fun z => ac (Or.inr z)
  have nnl : lf n ≠ nI n := fun z => fo_i_chne I hn hn (Or.inl z) rfl
  have nnr : rt n ≠ nI n := fun z => fo_i_chne I hn hn (Or.inr z) rfl
  have ppl : lf p ≠ nI p := fun z => fo_i_chne I hp hp (Or.inl z) rfl
  have ppr : rt p ≠ nI p := fun z => fo_i_chne I hp hp (Or.inr z) rfl
  have pxl : ∀ m, m < 24 → fo_px (lf m) := fun m hm => fo_i_lf I hm
  have pxr : ∀ m, m < 24 → fo_px (rt m) := fun m hm => fo_i_rt I hm
  have pxa : ∀ m, m < 24 → fo_px (ab m) := fun m hm => fo_i_ab I hm
  have hchd : ∀ m c, m < 24 → c < 24 → (lf m = nI c ∨ rt m = nI c) → ab c = nI m ∧ c ≠ m := fun m c hm hc h => ⟨fo_i_ch I hm hc h, fo_i_chne I hm hc h⟩
  have hlr : ∀ m c, m < 24 → c < 24 → lf m = nI c → ¬ rt m = nI c := fun m c hm hc h => fo_i_lr I hm hc h
  have hAG : ∀ c, c < 24 → fo_AG (sz c) (su c) (ls c) (wh c) hg (L c) := fun c hc => fo_i_ag I hc
  have eLn : L n = fo_LO L (lf n) ++ (n, vl n) :: fo_LO L (rt n) := fo_i_cl I hn kn
  have eLp : L p = fo_LO L (lf p) ++ (p, vl p) :: fo_LO L (rt p) := fo_i_cl I hp kp
  have main : ∀ x4 : Int32, (x4 = 1 ∧ fo_top (lf, rt, ab, vl, sz, su, ls, wh, hg, tn, pd, co, st) p) ∨ (x4 = 0 ∧ ¬ fo_top (lf, rt, ab, vl, sz, su, ls, wh, hg, tn, pd, co, st) p) → (vp_in (nI p) 24 ∧ (((lf p) = nI n → (wX_rotate_36 post (nI n) (nI p) (ab p) x4 1 lf rt ab vl sz su ls wh hg tn pd co st)) ∧ (¬ (lf p) = nI n → (wX_rotate_36 post (nI n) (nI p) (ab p) x4 0 lf rt ab vl sz su ls wh hg tn pd co st)))) := by
    intro x4 h4
    refine ⟨fo_in hp, br_c (fun h => ?_) (fun h => ?_)⟩
    · unfold wX_rotate_36
      rw [fo_cl hn]
      refine br_f fo_10 ⟨fo_in hn, ?_⟩
      unfold wX_rotate_58
      rw [fo_cl hn, fo_cl hp]
      refine br_f fo_10 ⟨fo_in hp, fun lf1 e1 => ⟨fo_in hn, fun rt1 e2 => ?_⟩⟩
      have ner : rt p ≠ nI n := hlr p n hp hn h
      refine fo_r98 I hn hp pn ac (fun m hm m1 m2 => ⟨by rw [e1, fo_un m1], by rw [e2, fo_un m2]⟩) (pxr n hn) ⟨acr, nnr⟩ h4 ?_
      intro lf2 rt2 ab2 ⟨f1, f2, f3, f4⟩ rs b1 b2 b3
      have g1 : lf2 p = rt n := by rw [f1, e1, fo_us]
      have g2 : lf2 n = lf n := by rw [f2, e1, fo_un pn.symm]
      have g3 : rt2 p = rt p := by rw [f3, e2, fo_un pn]
      have g4 : rt2 n = nI p := by rw [f4, e2, fo_us]
      have RS : fo_RS lf rt ab lf2 rt2 ab2 n p := ⟨fun m hm => ⟨pxl m hm, pxr m hm, pxa m hm⟩, hchd, hlr, hn, hp, h, ac, g1, g4, g3, g2, rs, b1, b2, b3⟩
      have eL : L p = fo_LO L (lf n) ++ (n, vl n) :: (fo_LO L (rt n) ++ (p, vl p) :: fo_LO L (rt p)) := by
        rw [eLp, h, fo_LO_s L hn, eLn, List.append_assoc]
        rfl
      have nd := fo_i_nd I hp
      rw [eL, fo_ns_app, fo_ns_cons, List.nodup_append, List.nodup_cons] at nd
      refine fo_r157 (L := L) hn hp pn (fo_LO L (rt n) ++ (p, vl p) :: fo_LO L (rt p)) hAG ⟨by rw [g1]; exact pxr n hn, by rw [g1]; exact acr, by rw [g1]; exact nnr⟩ ⟨by rw [g3]; exact pxr p hp, by rw [g3]; exact ppr, by rw [g3]; exact ner⟩ ⟨by rw [g2]; exact pxl n hn, by rw [g2]; exact nnl⟩ ⟨by rw [g4]; exact Or.inr ⟨p, hp, rfl⟩, by rw [g4]; exact fo_ne hp hn pn⟩ (by rw [g1, g3]) ?_
      intro sz' su' ls' wh' s1 ap an
      have cp : fo_LO L (rt n) ++ (p, vl p) :: fo_LO L (rt p) = fo_LO (fo_LR L (fo_LO L (rt n) ++ (p, vl p) :: fo_LO L (rt p)) n p) (lf2 p) ++ (p, vl p) :: fo_LO (fo_LR L (fo_LO L (rt n) ++ (p, vl p) :: fo_LO L (rt p)) n p) (rt2 p) := by
        rw [g1, g3, fo_LOr (pxr n hn) nnr acr, fo_LOr (pxr p hp) ner ppr]
      have cn : L p = fo_LO (fo_LR L (fo_LO L (rt n) ++ (p, vl p) :: fo_LO L (rt p)) n p) (lf2 n) ++ (n, vl n) :: fo_LO (fo_LR L (fo_LO L (rt n) ++ (p, vl p) :: fo_LO L (rt p)) n p) (rt2 n) := by
        rw [g2, g4, fo_LOr (pxl n hn) nnl acl, fo_LO_s _ hp, fo_LR_p pn]
        exact eL
      rw [← cn] at an
      obtain ⟨r1, r2, r3, r4, r5, r6, ra, rb, rl⟩ := fo_rotAB (u := (lf, rt, ab, vl, sz, su, ls, wh, hg, tn, pd, co, st)) (u' := (lf2, rt2, ab2, vl, sz', su', ls', wh', hg, tn, pd, co, st)) (Or.inl ⟨rfl, rfl, rfl, rfl⟩) RS
      obtain ⟨J, K⟩ := fo_rot (u' := (lf2, rt2, ab2, vl, sz', su', ls', wh', hg, tn, pd, co, st)) I hn hp np r1 r2 r3 r4 r5 r6 ra rb rl rfl rfl rfl rfl rfl kn kp cp cn nd.2.1.2 (fun x hx => by rw [eL]; exact fo_mem_app.mpr (Or.inr (fo_mem_cons.mpr (Or.inr hx)))) nd.2.1.1 s1 ap an
      exact H _ _ J K
    · have h' : rt p = nI n := np.resolve_left h
      unfold wX_rotate_36
      rw [fo_cl hn]
      refine br_t rfl ⟨fo_in hn, ?_⟩
      unfold wX_rotate_58
      rw [fo_cl hn, fo_cl hp]
      refine br_t rfl ⟨fo_in hp, fun rt1 e1 => ⟨fo_in hn, fun lf1 e2 => ?_⟩⟩
      refine fo_r98 I hn hp pn ac (fun m hm m1 m2 => ⟨by rw [e2, fo_un m2], by rw [e1, fo_un m1]⟩) (pxl n hn) ⟨acl, nnl⟩ h4 ?_
      intro lf2 rt2 ab2 ⟨f1, f2, f3, f4⟩ rs b1 b2 b3
      have g1 : rt2 p = lf n := by rw [f3, e1, fo_us]
      have g2 : rt2 n = rt n := by rw [f4, e1, fo_un pn.symm]
      have g3 : lf2 p = lf p := by rw [f1, e2, fo_un pn]
      have g4 : lf2 n = nI p := by rw [f2, e2, fo_us]
      have RS : fo_RS rt lf ab rt2 lf2 ab2 n p := ⟨fun m hm => ⟨pxr m hm, pxl m hm, pxa m hm⟩, fun m c hm hc z => hchd m c hm hc z.symm, fun m c hm hc z1 z2 => hlr m c hm hc z2 z1, hn, hp, h', fun z => ac z.symm, g1, g4, g3, g2, fun m hm m1 m2 => (rs m hm m1 m2).symm, b1, b2, b3⟩
      have eL : L p = (fo_LO L (lf p) ++ (p, vl p) :: fo_LO L (lf n)) ++ (n, vl n) :: fo_LO L (rt n) := by
        rw [eLp, h', fo_LO_s L hn, eLn, List.append_assoc]
        rfl
      have nd := fo_i_nd I hp
      rw [eL, fo_ns_app, List.nodup_append] at nd
      refine fo_r157 (L := L) hn hp pn (fo_LO L (lf p) ++ (p, vl p) :: fo_LO L (lf n)) hAG ⟨by rw [g3]; exact pxl p hp, by rw [g3]; exact ppl, by rw [g3]; exact h⟩ ⟨by rw [g1]; exact pxl n hn, by rw [g1]; exact acl, by rw [g1]; exact nnl⟩ ⟨by rw [g4]; exact Or.inr ⟨p, hp, rfl⟩, by rw [g4]; exact fo_ne hp hn pn⟩ ⟨by rw [g2]; exact pxr n hn, by rw [g2]; exact nnr⟩ (by rw [g1, g3]) ?_
      intro sz' su' ls' wh' s1 ap an
      have cp : fo_LO L (lf p) ++ (p, vl p) :: fo_LO L (lf n) = fo_LO (fo_LR L (fo_LO L (lf p) ++ (p, vl p) :: fo_LO L (lf n)) n p) (lf2 p) ++ (p, vl p) :: fo_LO (fo_LR L (fo_LO L (lf p) ++ (p, vl p) :: fo_LO L (lf n)) n p) (rt2 p) := by
        rw [g1, g3, fo_LOr (pxl n hn) nnl acl, fo_LOr (pxl p hp) h ppl]
      have cn : L p = fo_LO (fo_LR L (fo_LO L (lf p) ++ (p, vl p) :: fo_LO L (lf n)) n p) (lf2 n) ++ (n, vl n) :: fo_LO (fo_LR L (fo_LO L (lf p) ++ (p, vl p) :: fo_LO L (lf n)) n p) (rt2 n) := by
        rw [g2, g4, fo_LOr (pxr n hn) nnr acr, fo_LO_s _ hp, fo_LR_p pn]
        exact eL
      rw [← cn] at an
      obtain ⟨r1, r2, r3, r4, r5, r6, ra, rb, rl⟩ := fo_rotAB (u := (lf, rt, ab, vl, sz, su, ls, wh, hg, tn, pd, co, st)) (u' := (lf2, rt2, ab2, vl, sz', su', ls', wh', hg, tn, pd, co, st)) (Or.inr ⟨rfl, rfl, rfl, rfl⟩) RS
      obtain ⟨J, K⟩ := fo_rot (u' := (lf2, rt2, ab2, vl, sz', su', ls', wh', hg, tn, pd, co, st)) I hn hp np r1 r2 r3 r4 r5 r6 ra rb rl rfl rfl rfl rfl rfl kn kp cp cn nd.1 (fun x hx => by rw [eL]; exact fo_mem_app.mpr (Or.inl hx)) (fun z => nd.2.2 n z n List.mem_cons_self rfl) s1 ap an
      exact H _ _ J K
  unfold wpX_rotate
  dsimp only
  rw [fo_cl hn, eab]
  refine ⟨fo_in hn, fun x2 e2 => ?_⟩
  subst e2
  refine ⟨fo_in hp, fun x3 e3 => ?_⟩
  rw [fo_cl hp] at e3 ⊢
  subst e3
  exact fo_isTop I hp (fun t => main 1 (Or.inl ⟨rfl, t⟩)) (fun t => main 0 (Or.inr ⟨rfl, t⟩))
end
theorem fo_ro {post : SX → Prop} {u : SX} {L : Nat → List (Nat × Int32)} {n p : Nat} (I : fo_INV u L pa va sb) (hn : n < 24) (hp : p < 24) (np : fo_ch u p n) (kn : fo_clr u n) (kp : fo_clr u p)
    (H : ∀ u' L', fo_INV u' L' pa va sb → fo_RR n p u L u' L' → post u') : wpX_rotate post u (nI n) := by
  obtain ⟨lf, rt, ab, vl, sz, su, ls, wh, hg, tn, pd, co, st⟩ := u
  exact fo_ro0 I hn hp np kn kp H
end
end
section
/-! bringing a node to the top of its piece -/
section
variable {pa va sb : Nat → Int32}
/-- every piece is found again, with its content and what it hangs on; the same top where n is not in it -/
def fo_FR (n : Nat) (u : SX) (L : Nat → List (Nat × Int32)) (u' : SX) (L' : Nat → List (Nat × Int32)) : Prop :=
  ∀ t, t < 24 → fo_top u t → ∃ t', t' < 24 ∧ fo_top u' t' ∧ L' t' = L t ∧ fo_ab u' t' = fo_ab u t ∧ (¬ n ∈ fo_ns (L t) → t' = t)
theorem fo_FR_refl {n : Nat} {u : SX} {L : Nat → List (Nat × Int32)} : fo_FR n u L u L := fun t ht tt => ⟨t, ht, tt, rfl, rfl, fun _ => rfl⟩
theorem fo_FR_trans {n : Nat} {u u' u'' : SX} {L L' L'' : Nat → List (Nat × Int32)} (h : fo_FR n u L u' L') (g : fo_FR n u' L' u'' L'') : fo_FR n u L u'' L'' := by
  intro t ht tt
  obtain ⟨s, hs, ts, e1, e2, e3⟩ := h t ht tt
  obtain ⟨r, hr, tr, f1, f2, f3⟩ := g s hs ts
  refine ⟨r, hr, tr, f1.trans e1, f2.trans e2, fun z => ?_⟩
  rw [← e3 z]
  exact f3 (by rw [e1]; exact z)
theorem fo_FR_hd {n m : Nat} {u u' : SX} {L L' : Nat → List (Nat × Int32)} (hm : m < 24) (h : fo_HR m u L u' L') : fo_FR n u L u' L' := by
  obtain ⟨h1, h2, h3, h4, h5, h6⟩ := h
  intro t ht tt
  exact ⟨t, ht, fun k hk z => tt k hk ((h4 k t hk).mp z), h6 t ht (tt m hm), by rw [h1], fun _ => rfl⟩
theorem fo_FR_ro {n q p : Nat} {u u' : SX} {L L' : Nat → List (Nat × Int32)} (hq : q < 24) (hp : p < 24) (qp : fo_ch u p q) (hn : n ∈ fo_ns (L p)) (h : fo_RR q p u L u' L') : fo_FR n u L u' L' := by
  obtain ⟨_, h2, h3, _, _, h6, h7, h8, h9⟩ := h
  intro t ht tt
  by_cases e : t = p
  · subst e
    exact ⟨q, hq, h8.mpr tt, h2, h9, fun z => absurd hn z⟩
  · have tq : t ≠ q := fun z => by
      subst z
      exact tt p hp qp
    obtain ⟨k1, k2⟩ := h7 t ht tt e
    exact ⟨t, ht, k1, h3 t ht tq e, k2, fun _ => rfl⟩
def fo_L80 (pa va sb : Nat → Int32) (post : SX → Prop) (n fuel : Nat) : Prop :=
  ∀ (step : Nat) (lf rt ab vl sz su ls wh hg tn pd co st : Nat → Int32) (L : Nat → List (Nat × Int32)), fo_INV (lf, rt, ab, vl, sz, su, ls, wh, hg, tn, pd, co, st) L pa va sb → (∀ m, m < 24 → n ∈ fo_ns (L m) → fo_clr (lf, rt, ab, vl, sz, su, ls, wh, hg, tn, pd, co, st) m) → step + 1 ≤ (L n).length → 25 ≤ fuel + step →
    (∀ u' L', fo_INV u' L' pa va sb → fo_top u' n → fo_clr u' n → fo_FR n (lf, rt, ab, vl, sz, su, ls, wh, hg, tn, pd, co, st) L u' L' → post u') → wX_lift_80 post (nI n) fuel (nI step) lf rt ab vl sz su ls wh hg tn pd co st
theorem fo_l175 {post : SX → Prop} {n fuel : Nat} (hn : n < 24) (ih : fo_L80 pa va sb post n fuel) (step : Nat) {lf rt ab vl sz su ls wh hg tn pd co st : Nat → Int32} {L : Nat → List (Nat × Int32)} (I : fo_INV (lf, rt, ab, vl, sz, su, ls, wh, hg, tn, pd, co, st) L pa va sb) (hc : ∀ m, m < 24 → n ∈ fo_ns (L m) → fo_clr (lf, rt, ab, vl, sz, su, ls, wh, hg, tn, pd, co, st) m) (nt : ¬ fo_top (lf, rt, ab, vl, sz, su, ls, wh, hg, tn, pd, co, st) n) (hs : step + 1 ≤ (L n).length) (hf : 25 ≤ fuel + (step + 1))
    (H : ∀ u' L', fo_INV u' L' pa va sb → fo_top u' n → fo_clr u' n → fo_FR n (lf, rt, ab, vl, sz, su, ls, wh, hg, tn, pd, co, st) L u' L' → post u') : wX_lift_175 post (wX_lift_80 post (nI n) fuel) (nI n) (nI step) lf rt ab vl sz su ls wh hg tn pd co st := by
  obtain ⟨p, hp, eab, np⟩ := fo_i_abv I hn nt
  obtain ⟨s1, s2, s3⟩ := fo_i_sub I hp hn np
  have mn := fo_i_self I hn
  have mp := s1 n mn
  unfold wX_lift_175
  refine fo_ro I hn hp np (hc n hn mn) (hc p hp mp) fun u' L' J R => ?_
  have F := fo_FR_ro hn hp np mp R
  obtain ⟨⟨e1, e2⟩, h2, h3, h4, h5, h6, h7, h8, h9⟩ := R
  obtain ⟨lf', rt', ab', vl', sz', su', ls', wh', hg', tn', pd', co', st'⟩ := u'
  have e1' : tn' = tn := e1
  have e2' : pd' = pd := e2
  subst e1' e2'
  dsimp only
  intro x4 e4
  rw [nI_1] at e4
  subst e4
  refine ih (step + 1) lf' rt' ab' vl' sz' su' ls' wh' hg' tn' pd' co' st' L' J (fun m hm z => ?_) (by rw [h2]; omega) hf (fun u' L' J' t' c' F' => H u' L' J' t' c' (fo_FR_trans F F'))
  by_cases a : m = n
  · subst a
    exact hc m hm mn
  · by_cases b : m = p
    · subst b
      exact absurd z h5
    · rw [h3 m hm a b] at z
      exact hc m hm z
theorem fo_l172 {post : SX → Prop} {n fuel : Nat} (hn : n < 24) (ih : fo_L80 pa va sb post n fuel) (step : Nat) {lf rt ab vl sz su ls wh hg tn pd co st : Nat → Int32} {L : Nat → List (Nat × Int32)} (I : fo_INV (lf, rt, ab, vl, sz, su, ls, wh, hg, tn, pd, co, st) L pa va sb) (hc : ∀ m, m < 24 → n ∈ fo_ns (L m) → fo_clr (lf, rt, ab, vl, sz, su, ls, wh, hg, tn, pd, co, st) m) {p : Nat} (hp : p < 24) (np : fo_ch (lf, rt, ab, vl, sz, su, ls, wh, hg, tn, pd, co, st) p n) (nt : ¬ fo_top (lf, rt, ab, vl, sz, su, ls, wh, hg, tn, pd, co, st) p) (hs : step + 1 ≤ (L n).length) (hf : 25 ≤ fuel + (step + 1))
    (H : ∀ u' L', fo_INV u' L' pa va sb → fo_top u' n → fo_clr u' n → fo_FR n (lf, rt, ab, vl, sz, su, ls, wh, hg, tn, pd, co, st) L u' L' → post u') (z0 : Int32) (hz : z0 = nI n ∨ z0 = nI p) : wX_lift_172 post (wX_lift_80 post (nI n) fuel) (nI n) (nI step) z0 lf rt ab vl sz su ls wh hg tn pd co st := by
  obtain ⟨g, hg1, _, pg⟩ := fo_i_abv I hp nt
  obtain ⟨s1, s2, s3⟩ := fo_i_sub I hp hn np
  obtain ⟨q1, q2, q3⟩ := fo_i_sub I hg1 hp pg
  have mn := fo_i_self I hn
  have mp := s1 n mn
  have mg := q1 n mp
  unfold wX_lift_172
  rcases hz with e | e
  · subst e
    refine fo_ro I hn hp np (hc n hn mn) (hc p hp mp) fun u' L' J R => ?_
    have F := fo_FR_ro hn hp np mp R
    obtain ⟨⟨e1, e2⟩, h2, h3, h4, h5, h6, h7, h8, h9⟩ := R
    obtain ⟨lf', rt', ab', vl', sz', su', ls', wh', hg', tn', pd', co', st'⟩ := u'
    have e1' : tn' = tn := e1
    have e2' : pd' = pd := e2
    subst e1' e2'
    dsimp only
    refine fo_l175 hn ih step J (fun m hm z => ?_) (fun t => nt (h8.mp t)) (by rw [h2]; omega) hf (fun u' L' J' t' c' F' => H u' L' J' t' c' (fo_FR_trans F F'))
    by_cases a : m = n
    · subst a
      exact hc m hm mn
    · by_cases b : m = p
      · subst b
        exact absurd z h5
      · rw [h3 m hm a b] at z
        exact hc m hm z
  · subst e
    refine fo_ro I hp hg1 pg (hc p hp mp) (hc g hg1 mg) fun u' L' J R => ?_
    have F := fo_FR_ro hp hg1 pg mg R
    obtain ⟨⟨e1, e2⟩, h2, h3, h4, h5, h6, h7, h8, h9⟩ := R
    obtain ⟨lf', rt', ab', vl', sz', su', ls', wh', hg', tn', pd', co', st'⟩ := u'
    have e1' : tn' = tn := e1
    have e2' : pd' = pd := e2
    subst e1' e2'
    have n1 : n ≠ p := fo_i_chne I hp hn np
    have n2 : n ≠ g := fun z => by
      subst z
      omega
    dsimp only
    refine fo_l175 hn ih step J (fun m hm z => ?_) (h6 n hn n1 fun t => t p hp np) (by rw [h3 n hn n1 n2]; exact hs) hf (fun u' L' J' t' c' F' => H u' L' J' t' c' (fo_FR_trans F F'))
    by_cases a : m = p
    · subst a
      exact hc m hm mp
    · by_cases b : m = g
      · subst b
        exact hc m hm mg
      · rw [h3 m hm a b] at z
        exact hc m hm z
theorem fo_l80 {post : SX → Prop} {n : Nat} (hn : n < 24) : ∀ fuel, fo_L80 pa va sb post n fuel := by
  intro fuel
  induction fuel with
  | zero =>
    intro step lf rt ab vl sz su ls wh hg tn pd co st L I hc hs hf H
    have := fo_i_24 I hn
    omega
  | succ fuel ih =>
    intro step lf rt ab vl sz su ls wh hg tn pd co st L I hc hs hf H
    have l24 := fo_i_24 I hn
    refine br_f (nI_ge (b := 24) (by omega) (by omega)) ?_
    refine fo_isTop I hn (fun t => ?_) (fun t => ?_)
    · exact br_f fo_10 (H _ L I t (hc n hn (fo_i_self I hn)) fo_FR_refl)
    · obtain ⟨p, hp, eab, np⟩ := fo_i_abv I hn t
      have eab' : ab n = nI p := eab
      refine br_t rfl ⟨fo_in hn, fun x5 e5 => ?_⟩
      rw [fo_cl hn, eab'] at e5
      subst e5
      refine fo_isTop I hp (fun tp => br_f fo_10 ?_) (fun tp => br_t rfl ?_)
      · exact fo_l175 hn ih step I hc t hs (by omega) H
      · have k := fun z0 hz => fo_l172 hn ih step I hc hp np tp hs (by omega) H z0 hz
        have k158 : ∀ z0 : Int32, wX_lift_158 post (wX_lift_80 post (nI n) fuel) (nI n) (nI step) (nI p) z0 lf rt ab vl sz su ls wh hg tn pd co st := by
          intro z0
          unfold wX_lift_158
          exact br_c (fun _ => k _ (Or.inl rfl)) (fun _ => k _ (Or.inr rfl))
        have k128 : ∀ z0 : Int32, wX_lift_128 post (wX_lift_80 post (nI n) fuel) (nI n) (nI step) (nI p) z0 lf rt ab vl sz su ls wh hg tn pd co st := by
          intro z0
          obtain ⟨g, hg1, eg, _⟩ := fo_i_abv I hp tp
          have eg' : ab p = nI g := eg
          unfold wX_lift_128
          rw [fo_cl hp, eg']
          refine ⟨fo_in hp, fo_in hg1, br_c (fun _ => ?_) (fun _ => ?_)⟩
          · unfold wX_lift_150
            exact br_c (fun _ => k158 _) (fun _ => k158 _)
          · unfold wX_lift_150
            exact br_c (fun _ => k158 _) (fun _ => k158 _)
        exact ⟨fo_in hp, br_c (fun _ => k128 _) (fun _ => k128 _)⟩
end
end
section
/-! lifting: the way up, handing down along it, and the method -/
section
variable {pa va sb : Nat → Int32}
theorem fo_INV_st {lf rt ab vl sz su ls wh hg tn pd co st st' : Nat → Int32} {L : Nat → List (Nat × Int32)} (I : fo_INV (lf, rt, ab, vl, sz, su, ls, wh, hg, tn, pd, co, st) L pa va sb) : fo_INV (lf, rt, ab, vl, sz, su, ls, wh, hg, tn, pd, co, st') L pa va sb := fun n hn => I n hn
theorem fo_FR_st {n : Nat} {lf rt ab vl sz su ls wh hg tn pd co st st' : Nat → Int32} {L : Nat → List (Nat × Int32)} : fo_FR n (lf, rt, ab, vl, sz, su, ls, wh, hg, tn, pd, co, st) L (lf, rt, ab, vl, sz, su, ls, wh, hg, tn, pd, co, st') L := fun t ht tt => ⟨t, ht, tt, rfl, rfl, fun _ => rfl⟩
/-- the stack below k holds a way down to n -/
def fo_SC (u : SX) (st : Nat → Int32) (n k : Nat) : Prop := st 0 = nI n ∧ ∀ i, i < k → ∃ c q, c < 24 ∧ q < 24 ∧ st i = nI c ∧ st (i + 1) = nI q ∧ fo_ch u q c
theorem fo_l55 {post : SX → Prop} {n : Nat} (hn : n < 24) (j : Nat) : ∀ (fuel : Nat) (lf rt ab vl sz su ls wh hg tn pd co st : Nat → Int32) (L : Nat → List (Nat × Int32)) (a : Nat), j + 2 ≤ fuel → j < 24 → fo_INV (lf, rt, ab, vl, sz, su, ls, wh, hg, tn, pd, co, st) L pa va sb → fo_SC (lf, rt, ab, vl, sz, su, ls, wh, hg, tn, pd, co, st) st n j → a < 24 → st j = nI a → (∀ m, m < 24 → a ∈ fo_ns (L m) → m ≠ a → fo_clr (lf, rt, ab, vl, sz, su, ls, wh, hg, tn, pd, co, st) m) →
    (∀ (lf' rt' ab' vl' sz' su' ls' wh' hg' tn' pd' co' st' : Nat → Int32) (L' : Nat → List (Nat × Int32)), fo_INV (lf', rt', ab', vl', sz', su', ls', wh', hg', tn', pd', co', st') L' pa va sb → (∀ m, m < 24 → n ∈ fo_ns (L' m) → fo_clr (lf', rt', ab', vl', sz', su', ls', wh', hg', tn', pd', co', st') m) → fo_FR n (lf, rt, ab, vl, sz, su, ls, wh, hg, tn, pd, co, st) L (lf', rt', ab', vl', sz', su', ls', wh', hg', tn', pd', co', st') L' → ∃ n80, wX_lift_80 post (nI n) n80 0 lf' rt' ab' vl' sz' su' ls' wh' hg' tn' pd' co' st') →
    wX_lift_55 post (nI n) fuel (nI j) lf rt ab vl sz su ls wh hg tn pd co st := by
  induction j with
  | zero =>
    intro fuel lf rt ab vl sz su ls wh hg tn pd co st L a hf hj I S ha ea hc H
    obtain ⟨fuel, rfl⟩ : ∃ f, fuel = f + 1 + 1 := ⟨fuel - 2, by omega⟩
    have an : a = n := fo_ij ha hn (ea.symm.trans S.1)
    subst an
    refine br_f (fo_nn (n := 0) (by omega)) ⟨fo_in (n := 0) (by omega), ?_⟩
    rw [fo_cl (n := 0) (by omega), ea]
    refine fo_hd I hn fun u' L' J R k => ?_
    have F : fo_FR a (lf, rt, ab, vl, sz, su, ls, wh, hg, tn, pd, co, st) L u' L' := fo_FR_hd hn R
    obtain ⟨lf', rt', ab', vl', sz', su', ls', wh', hg', tn', pd', co', st'⟩ := u'
    dsimp only
    intro x4 e4
    have e5 : x4 = -1 := by rw [e4]; rfl
    subst e5
    refine br_t fo_neg (H lf' rt' ab' vl' sz' su' ls' wh' hg' tn' pd' co' st' L' J (fun m hm z => ?_) F)
    by_cases b : m = a
    · subst b
      exact k
    · have z' := (R.2.2.1 m hm a).mp z
      have l1 := fo_i_trl I hm z' (fun q => b q.symm)
      have nch : ¬ fo_ch (lf, rt, ab, vl, sz, su, ls, wh, hg, tn, pd, co, st) a m := fun q => by
        have := (fo_i_sub I hn hm q).2.1
        omega
      obtain ⟨c1, c2⟩ := R.2.2.2.2.1 m hm nch b
      have c0 := hc m hm z' b
      exact ⟨c1.trans c0.1, c2.trans c0.2⟩
  | succ j ih =>
    intro fuel lf rt ab vl sz su ls wh hg tn pd co st L a hf hj I S ha ea hc H
    obtain ⟨fuel, rfl⟩ : ∃ f, fuel = f + 1 := ⟨fuel - 1, by omega⟩
    refine br_f (fo_nn hj) ⟨fo_in hj, ?_⟩
    rw [fo_cl hj, ea]
    refine fo_hd I ha fun u' L' J R k => ?_
    have F : fo_FR n (lf, rt, ab, vl, sz, su, ls, wh, hg, tn, pd, co, st) L u' L' := fo_FR_hd ha R
    obtain ⟨lf', rt', ab', vl', sz', su', ls', wh', hg', tn', pd', co', st'⟩ := u'
    dsimp only
    intro x4 e4
    have e5 : x4 = nI j := by
      rw [e4, ← nI_1, Int32.add_assoc]
      exact Int32.add_zero _
    subst e5
    obtain ⟨r1, r2, r3, r4, r5, r6⟩ := R
    have r2' : st' = st := r2
    subst r2'
    obtain ⟨c, q, hc1, hq, ec, eq, hch⟩ := S.2 j (by omega)
    have qa : q = a := fo_ij hq ha (eq.symm.trans ea)
    subst qa
    refine ih fuel lf' rt' ab' vl' sz' su' ls' wh' hg' tn' pd' co' st' L' c (by omega) (by omega) J ⟨S.1, fun i hi => ?_⟩ hc1 ec (fun m hm z mc => ?_) (fun lf2 rt2 ab2 vl2 sz2 su2 ls2 wh2 hg2 tn2 pd2 co2 st2 L2 J2 k2 F2 => H lf2 rt2 ab2 vl2 sz2 su2 ls2 wh2 hg2 tn2 pd2 co2 st2 L2 J2 k2 (fo_FR_trans F F2))
    · obtain ⟨c', q', g1, g2, g3, g4, g5⟩ := S.2 i (by omega)
      exact ⟨c', q', g1, g2, g3, g4, (r4 q' c' g2).mpr g5⟩
    · have z' := (r3 m hm c).mp z
      have y := fo_i_upm I hm hq z' (fun e => mc e.symm) hch
      by_cases b : m = q
      · subst b
        exact k
      · have l1 := fo_i_trl I hm y (fun e => b e.symm)
        have nch : ¬ fo_ch (lf, rt, ab, vl, sz, su, ls, wh, hg, tn, pd, co, st') q m := fun w => by
          have := (fo_i_sub I hq hm w).2.1
          omega
        obtain ⟨c1, c2⟩ := r5 m hm nch b
        have c0 := hc m hm y b
        exact ⟨c1.trans c0.1, c2.trans c0.2⟩
theorem fo_l14 {post : SX → Prop} {n : Nat} (hn : n < 24) {lf rt ab vl sz su ls wh hg tn pd co : Nat → Int32} {L : Nat → List (Nat × Int32)} (fuel : Nat) : ∀ (d a : Nat) (st : Nat → Int32), 24 ≤ fuel + d → d ≤ 23 → fo_INV (lf, rt, ab, vl, sz, su, ls, wh, hg, tn, pd, co, st) L pa va sb → fo_SC (lf, rt, ab, vl, sz, su, ls, wh, hg, tn, pd, co, st) st n d → a < 24 → st d = nI a → d + 1 ≤ (L a).length →
    (∀ (d a : Nat) (st : Nat → Int32), d ≤ 23 → fo_INV (lf, rt, ab, vl, sz, su, ls, wh, hg, tn, pd, co, st) L pa va sb → fo_SC (lf, rt, ab, vl, sz, su, ls, wh, hg, tn, pd, co, st) st n d → a < 24 → st d = nI a → fo_top (lf, rt, ab, vl, sz, su, ls, wh, hg, tn, pd, co, st) a → ∃ n55, wX_lift_55 post (nI n) n55 (nI d) lf rt ab vl sz su ls wh hg tn pd co st) →
    wX_lift_14 post (nI n) fuel (nI d) (nI a) (nI d) lf rt ab vl sz su ls wh hg tn pd co st := by
  induction fuel with
  | zero =>
    intro d a st hf hd
    omega
  | succ fuel ih =>
    intro d a st hf hd I S ha ea hl H
    refine br_c (fun z => ?_) (fun z => ?_)
    · refine H d a st hd I S ha ea ?_
      have d23 : 23 ≤ d := by
        by_cases w : d < 23
        · exact absurd z (nI_ge (b := 23) w (by omega))
        · omega
      intro m hm w
      have l1 := (fo_i_sub I hm ha w).2.1
      have l2 := fo_i_24 I hm
      omega
    · refine fo_isTop I ha (fun t => br_f fo_10 (H d a st hd I S ha ea t)) (fun t => br_t rfl ⟨fo_in ha, fun x3 e3 x2 e2 => ?_⟩)
      obtain ⟨p, hp, eab, np⟩ := fo_i_abv I ha t
      have eab' : ab a = nI p := eab
      have l1 := (fo_i_sub I hp ha np).2.1
      have l2 := fo_i_24 I hp
      rw [fo_cl ha, eab'] at e3
      rw [nI_1] at e2
      subst e3 e2
      refine ⟨fo_in (by omega), fun st' e4 x4 e5 => ?_⟩
      rw [fo_cl (by omega)] at e4
      rw [nI_1] at e5
      subst e5
      have s1 : ∀ i, i ≤ d → st' i = st i := fun i hi => by rw [e4, fo_un (by omega)]
      have s2 : st' (d + 1) = nI p := by rw [e4, fo_us]
      refine ih (d + 1) p st' (by omega) (by omega) (fo_INV_st I) ⟨(s1 0 (by omega)).trans S.1, fun i hi => ?_⟩ hp s2 (by omega) H
      by_cases w : i = d
      · subst w
        exact ⟨a, p, ha, hp, (s1 i (by omega)).trans ea, s2, np⟩
      · obtain ⟨c', q', g1, g2, g3, g4, g5⟩ := S.2 i (by omega)
        exact ⟨c', q', g1, g2, (s1 i (by omega)).trans g3, (s1 (i + 1) (by omega)).trans g4, g5⟩
theorem fo_li {post : SX → Prop} {u : SX} {L : Nat → List (Nat × Int32)} {n : Nat} (I : fo_INV u L pa va sb) (hn : n < 24)
    (H : ∀ u' L', fo_INV u' L' pa va sb → fo_top u' n → fo_clr u' n → fo_FR n u L u' L' → post u') : wpX_lift post u (nI n) := by
  obtain ⟨lf, rt, ab, vl, sz, su, ls, wh, hg, tn, pd, co, st⟩ := u
  unfold wpX_lift
  dsimp only
  intro st1 e1
  have pos : 1 ≤ (L n).length := by
    have := List.length_pos_of_mem (fo_i_self I hn)
    rw [fo_ns_len] at this
    exact this
  refine ⟨24, fo_l14 hn (L := L) 24 0 n st1 (by omega) (by omega) (fo_INV_st I) ⟨by rw [e1, fo_us], fun i hi => absurd hi (by omega)⟩ hn (by rw [e1, fo_us]) pos ?_⟩
  intro d a st2 hd I2 S ha ea ta
  refine ⟨d + 2, fo_l55 hn d (d + 2) lf rt ab vl sz su ls wh hg tn pd co st2 L a (Nat.le_refl _) (by omega) I2 S ha ea (fun m hm z ma => absurd (fo_i_ntop I2 hm z ta).symm ma) ?_⟩
  intro lf' rt' ab' vl' sz' su' ls' wh' hg' tn' pd' co' st' L' J k F
  refine ⟨25, fo_l80 hn 25 0 lf' rt' ab' vl' sz' su' ls' wh' hg' tn' pd' co' st' L' J k ?_ (by omega) fun u' L' J' t' c' F' => H u' L' J' t' c' (fo_FR_trans (fo_FR_trans fo_FR_st F) F')⟩
  have := List.length_pos_of_mem (fo_i_self J hn)
  rw [fo_ns_len] at this
  exact this
end
end
section
/-! one step of exposing: the deeper part of the piece is let go, the part below is taken in -/
section
variable {pa va sb : Nat → Int32}
theorem fo_ar1 {a b c d e : Int32} (h : a + b = c + d) : a + e + b = c + e + d := by
  rw [Int32.add_assoc a e b, Int32.add_comm e b, ← Int32.add_assoc, h, Int32.add_assoc c d e, Int32.add_comm d e, ← Int32.add_assoc]
def fo_LS (L : Nat → List (Nat × Int32)) (x : Nat) (M : List (Nat × Int32)) : Nat → List (Nat × Int32) := fun m => if m = x then M else L m
theorem fo_LS_x {L : Nat → List (Nat × Int32)} {x : Nat} {M : List (Nat × Int32)} : fo_LS L x M x = M := if_pos rfl
theorem fo_LS_o {L : Nat → List (Nat × Int32)} {x m : Nat} {M : List (Nat × Int32)} (h : m ≠ x) : fo_LS L x M m = L m := if_neg h
theorem fo_LOs {L : Nat → List (Nat × Int32)} {x : Nat} {M : List (Nat × Int32)} {y : Int32} (hy : fo_px y) (h : y ≠ nI x) : fo_LO (fo_LS L x M) y = fo_LO L y := by
  rcases hy with e | ⟨c, hc, e⟩
  · rw [e, fo_LO_n, fo_LO_n]
  · rw [e, fo_LO_s _ hc, fo_LO_s _ hc, fo_LS_o (fun z => h (by rw [e, z]))]
/-- what one step keeps: x is the node, l what is taken in -/
def fo_EF (x : Nat) (l : Int32) (u : SX) (L : Nat → List (Nat × Int32)) (u' : SX) (L' : Nat → List (Nat × Int32)) : Prop :=
  fo_top u' x ∧ fo_ab u' = fo_ab u ∧ L' x = fo_LO L (fo_lf u x) ++ (x, fo_vl u x) :: fo_LO L l ∧ (∀ m, m ≠ x → L' m = L m) ∧ ∀ t, t < 24 → fo_top u t → l ≠ nI t → fo_top u' t
theorem fo_es {u u' : SX} {L : Nat → List (Nat × Int32)} {W : Nat → List Nat} {x : Nat} {l : Int32} (Y : fo_YI pa W) (I : fo_INV u L pa va sb) (hx : x < 24) (tx : fo_top u x) (kx : fo_clr u x) (hl : fo_px l)
    (hlt : ∀ t, t < 24 → l = nI t → fo_top u t ∧ fo_ab u t = nI x ∧ t ≠ x)
    (elf : fo_lf u' = fo_lf u) (eab : fo_ab u' = fo_ab u) (evl : fo_vl u' = fo_vl u) (etn : fo_tn u' = fo_tn u) (epd : fo_pd u' = fo_pd u) (eco : fo_co u' = fo_co u)
    (ert : fo_rt u' x = l) (ert2 : ∀ m, m ≠ x → fo_rt u' m = fo_rt u m) (ehg2 : ∀ m, m ≠ x → fo_hg u' m = fo_hg u m)
    (ehg : fo_hg u' x + fo_he sb 0 (fo_LO L l) = fo_hg u x + fo_he sb 0 (fo_LO L (fo_rt u x)))
    (ags : ∀ m, m ≠ x → fo_sz u' m = fo_sz u m ∧ fo_su u' m = fo_su u m ∧ fo_ls u' m = fo_ls u m ∧ fo_wh u' m = fo_wh u m)
    (agx : fo_AG (fo_sz u' x) (fo_su u' x) (fo_ls u' x) (fo_wh u' x) (fo_hg u') (fo_LO L (fo_lf u x) ++ (x, fo_vl u x) :: fo_LO L l)) :
    fo_INV u' (fo_LS L x (fo_LO L (fo_lf u x) ++ (x, fo_vl u x) :: fo_LO L l)) pa va sb ∧ fo_EF x l u L u' (fo_LS L x (fo_LO L (fo_lf u x) ++ (x, fo_vl u x) :: fo_LO L l)) := by
  have chx : ∀ m c, m ≠ x → (fo_ch u' m c ↔ fo_ch u m c) := by
    intro m c h
    unfold fo_ch
    rw [elf, ert2 m h]
  have nx : ∀ m, m < 24 → m ≠ x → ¬ x ∈ fo_ns (L m) := fun m hm h z => h (fo_i_ntop I hm z tx).symm
  have lx : fo_lf u x ≠ nI x := fun z => fo_i_chne I hx hx (Or.inl z) rfl
  have lnx : l ≠ nI x := fun z => (hlt x hx z).2.2 rfl
  have eLx := fo_i_cl I hx kx
  have topx : fo_top u' x := by
    intro m hm h
    by_cases e : m = x
    · subst e
      rcases h with h | h
      · rw [elf] at h; exact lx h
      · rw [ert] at h; exact lnx h
    · exact tx m hm ((chx m x e).mp h)
  have topk : ∀ t, t < 24 → fo_top u t → l ≠ nI t → fo_top u' t := by
    intro t ht tt ne m hm h
    by_cases e : m = x
    · subst e
      rcases h with h | h
      · rw [elf] at h; exact tt m hm (Or.inl h)
      · rw [ert] at h; exact ne h
    · exact tt m hm ((chx m t e).mp h)
  have hch : ∀ m c, m < 24 → c < 24 → fo_ch u' m c → fo_ab u' c = nI m := by
    intro m c hm hc h
    rw [eab]
    by_cases e : m = x
    · subst e
      rcases h with h | h
      · rw [elf] at h; exact fo_i_ch I hm hc (Or.inl h)
      · rw [ert] at h; exact (hlt c hc h).2.1
    · exact fo_i_ch I hm hc ((chx m c e).mp h)
  have CX := fo_i_cs I hx tx
  rw [eLx] at CX
  obtain ⟨CA, c1, c2, c3, CB⟩ := (fo_CS_app _ _ _).mp CX
  have CA' : fo_CS pa va sb (fo_hg u) (sb x) (fo_ab u x) (fo_LO L (fo_lf u x)) := CA
  have ltx : ∀ y, y ∈ fo_ns (fo_LO L (fo_lf u x) ++ (x, fo_vl u x) :: fo_LO L l) → y < 24 := by
    intro y hy
    rcases fo_mem_app.mp hy with h | h
    · exact fo_i_lt I hx ((fo_i_mem I hx y).mpr (Or.inl h))
    · rcases fo_mem_cons.mp h with h | h
      · rw [h]; exact hx
      · rcases hl with e | ⟨t, ht, e⟩
        · rw [e, fo_LO_n] at h; exact absurd h fo_mem_nil
        · rw [e, fo_LO_s _ ht] at h; exact fo_i_lt I ht h
  have nA : ¬ x ∈ fo_ns (fo_LO L (fo_lf u x)) := by
    have nd := fo_i_nd2 I hx
    rw [List.nodup_append] at nd
    exact fun z => nd.2.2 x z x List.mem_cons_self rfl
  have CN : fo_CS pa va sb (fo_hg u') 0 (fo_ab u' x) (fo_LO L (fo_lf u x) ++ (x, fo_vl u x) :: fo_LO L l) := by
    rw [eab]
    refine (fo_CS_app _ _ _).mpr ⟨?_, c1, c2, ?_, ?_⟩
    · show fo_CS pa va sb (fo_hg u') (sb x) (fo_ab u x) (fo_LO L (fo_lf u x))
      exact fo_CS_congr _ _ (fun y hy => ⟨rfl, rfl, rfl, ehg2 y (fun e => nA (by rw [e] at hy; exact hy))⟩) CA'
    · show fo_hg u' x + fo_vl u x + fo_he sb 0 (fo_LO L l) = sb x
      have c3' : fo_hg u x + fo_vl u x + fo_he sb 0 (fo_LO L (fo_rt u x)) = sb x := c3
      rw [← c3']
      exact fo_ar1 ehg
    · rcases hl with e | ⟨t, ht, e⟩
      · rw [e, fo_LO_n]; exact trivial
      · obtain ⟨t1, t2, t3⟩ := hlt t ht e
        rw [e, fo_LO_s _ ht, ← t2]
        exact fo_CS_congr _ _ (fun y hy => ⟨rfl, rfl, rfl, ehg2 y (fun e => nx t ht t3 (by rw [← e]; exact hy))⟩) (fo_i_cs I ht t1)
  refine ⟨fun m hm => ⟨?_, fun c hc h => hch m c hm hc h, ?_, ?_, ?_, ?_⟩, topx, eab, fo_LS_x, fun m h => fo_LS_o h, topk⟩
  · rw [elf, eab]
    by_cases e : m = x
    · subst e
      rw [ert]
      exact ⟨fo_i_lf I hm, hl, fo_i_ab I hm⟩
    · rw [ert2 m e]
      exact (I m hm).1
  · rw [etn, epd, eco, evl, elf]
    by_cases e : m = x
    · subst e
      rw [ert, kx.1, kx.2, fo_tw0, fo_pn0, fo_pn0, fo_LOs (fo_i_lf I hm) lx, fo_LOs hl lnx, fo_LS_x]
    · rw [ert2 m e, fo_LOs (fo_i_lf I hm) (fun z => tx m hm (Or.inl z)), fo_LOs (fo_i_rt I hm) (fun z => tx m hm (Or.inr z)), fo_LS_o e]
      exact fo_i_cn I hm
  · by_cases e : m = x
    · subst e
      rw [fo_LS_x]
      exact ⟨fo_CS_nd Y _ _ CN ltx, ltx⟩
    · rw [fo_LS_o e]
      exact (I m hm).2.2.2.1
  · by_cases e : m = x
    · subst e
      rw [fo_LS_x]
      exact agx
    · obtain ⟨a1, a2, a3, a4⟩ := ags m e
      rw [fo_LS_o e, a1, a2, a3, a4]
      exact fo_AG_hg (fun y hy => ehg2 y (fun z => nx m hm e (by rw [← z]; exact hy))) (fo_i_ag I hm)
  · intro t
    by_cases e : m = x
    · subst e
      rw [fo_LS_x]
      exact CN
    · rw [fo_LS_o e, eab]
      by_cases tm : fo_top u m
      · exact fo_CS_congr _ _ (fun y hy => ⟨rfl, rfl, rfl, ehg2 y (fun z => nx m hm e (by rw [← z]; exact hy))⟩) (fo_i_cs I hm tm)
      · obtain ⟨k, hk, hkm⟩ := fo_ntop.mp tm
        by_cases kx' : k = x
        · subst kx'
          have rm : fo_rt u k = nI m := by
            rcases hkm with h | h
            · exact absurd (Or.inl (by rw [elf]; exact h)) (t k hk)
            · exact h
          rw [fo_i_ch I hk hm hkm]
          rw [rm, fo_LO_s _ hm] at CB
          exact fo_CS_congr _ _ (fun y hy => ⟨rfl, rfl, rfl, ehg2 y (fun z => nx m hm e (by rw [← z]; exact hy))⟩) CB
        · exact absurd ((chx k m kx').mpr hkm) (t k hk)
/-- the whole of a part that hangs below x -/
theorem fo_whB {u : SX} {L : Nat → List (Nat × Int32)} {x r : Nat} (I : fo_INV u L pa va sb) (hx : x < 24) (tx : fo_top u x) (kx : fo_clr u x) (hr : r < 24) (h : fo_rt u x = nI r) : fo_wh u r = fo_he sb 0 (L r) := by
  have CX := fo_i_cs I hx tx
  rw [fo_i_cl I hx kx] at CX
  obtain ⟨CA, c1, c2, c3, CB⟩ := (fo_CS_app _ _ _).mp CX
  rw [h, fo_LO_s _ hr] at CB
  have e := fo_CS_tel _ _ CB
  rw [Int32.add_zero] at e
  rw [← e]
  exact (fo_i_ag I hr).2.2.2
theorem fo_whT {u : SX} {L : Nat → List (Nat × Int32)} {t : Nat} (I : fo_INV u L pa va sb) (ht : t < 24) (tt : fo_top u t) : fo_wh u t = fo_he sb 0 (L t) := by
  have e := fo_CS_tel _ _ (fo_i_cs I ht tt)
  rw [Int32.add_zero] at e
  rw [← e]
  exact (fo_i_ag I ht).2.2.2
end
end
section
/-! exposing: one step's walk, the loop, the method -/
section
variable {pa va sb : Nat → Int32}
section
variable {lf rt ab vl sz su ls wh hg tn pd co st : Nat → Int32} {L : Nat → List (Nat × Int32)} {W : Nat → List Nat} {x step : Nat} {l x1 : Int32} {post : Int32 → SX → Prop} {J : Int32 → Int32 → Int32 → (Nat → Int32) → (Nat → Int32) → (Nat → Int32) → (Nat → Int32) → (Nat → Int32) → (Nat → Int32) → (Nat → Int32) → (Nat → Int32) → (Nat → Int32) → (Nat → Int32) → (Nat → Int32) → (Nat → Int32) → (Nat → Int32) → Prop}
theorem fo_e71 (Y : fo_YI pa W) (I : fo_INV (lf, rt, ab, vl, sz, su, ls, wh, hg, tn, pd, co, st) L pa va sb) (hx : x < 24) (tx : fo_top (lf, rt, ab, vl, sz, su, ls, wh, hg, tn, pd, co, st) x) (kx : fo_clr (lf, rt, ab, vl, sz, su, ls, wh, hg, tn, pd, co, st) x) (hl : fo_px l) (hlt : ∀ t, t < 24 → l = nI t → fo_top (lf, rt, ab, vl, sz, su, ls, wh, hg, tn, pd, co, st) t ∧ ab t = nI x ∧ t ≠ x)
    (K : ∀ (lf' rt' ab' vl' sz' su' ls' wh' hg' tn' pd' co' st' : Nat → Int32) (L' : Nat → List (Nat × Int32)), fo_INV (lf', rt', ab', vl', sz', su', ls', wh', hg', tn', pd', co', st') L' pa va sb → fo_EF x l (lf, rt, ab, vl, sz, su, ls, wh, hg, tn, pd, co, st) L (lf', rt', ab', vl', sz', su', ls', wh', hg', tn', pd', co', st') L' → J (nI x) (ab' x) (nI (step + 1)) lf' rt' ab' vl' sz' su' ls' wh' hg' tn' pd' co' st')
    {hg2 : Nat → Int32} (h1 : ∀ m, m ≠ x → hg2 m = hg m) (h2 : hg2 x + fo_he sb 0 (fo_LO L l) = hg x + fo_he sb 0 (fo_LO L (rt x))) :
    wX_expose_71 post J x1 l (nI x) (nI step) lf rt ab vl sz su ls wh hg2 tn pd co st := by
  have nx : ∀ m, m < 24 → m ≠ x → ¬ x ∈ fo_ns (L m) := fun m hm h z => h (fo_i_ntop I hm z tx).symm
  have aG : ∀ c, c < 24 → c ≠ x → fo_AG (sz c) (su c) (ls c) (wh c) hg2 (L c) := fun c hc ne => fo_AG_hg (fun y hy => h1 y (fun z => nx c hc ne (by rw [z] at hy; exact hy))) (fo_i_ag I hc)
  unfold wX_expose_71
  rw [fo_cl hx]
  refine ⟨fo_in hx, fun rt1 e1 => ?_⟩
  have r1 : rt1 x = l := by rw [e1, fo_us]
  have r2 : ∀ m, m ≠ x → rt1 m = rt m := fun m h => by rw [e1, fo_un h]
  refine fo_ga (L := L) hx ?_ ?_ fun sz' su' ls' wh' s1 a1 => ?_
  · rcases fo_i_lf I hx with e | ⟨c, hc, e⟩
    · exact Or.inl e
    · have ne : c ≠ x := fo_i_chne I hx hc (Or.inl e)
      exact Or.inr ⟨c, hc, ne, e, aG c hc ne⟩
  · rw [r1]
    rcases hl with e | ⟨t, ht, e⟩
    · exact Or.inl e
    · have ne : t ≠ x := (hlt t ht e).2.2
      exact Or.inr ⟨t, ht, ne, e, aG t ht ne⟩
  · rw [r1] at a1
    obtain ⟨J1, F1⟩ := fo_es (u' := (lf, rt1, ab, vl, sz', su', ls', wh', hg2, tn, pd, co, st)) Y I hx tx kx hl hlt rfl rfl rfl rfl rfl rfl r1 r2 h1 h2 (fun m h => s1 m h) a1
    dsimp only
    refine ⟨fo_in hx, fun y1 g1 y2 g2 => ?_⟩
    rw [nI_1] at g2
    subst g1 g2
    exact K _ _ _ _ _ _ _ _ _ _ _ _ _ _ J1 F1
theorem fo_e52 (Y : fo_YI pa W) (I : fo_INV (lf, rt, ab, vl, sz, su, ls, wh, hg, tn, pd, co, st) L pa va sb) (hx : x < 24) (tx : fo_top (lf, rt, ab, vl, sz, su, ls, wh, hg, tn, pd, co, st) x) (kx : fo_clr (lf, rt, ab, vl, sz, su, ls, wh, hg, tn, pd, co, st) x) (hl : fo_px l) (hlt : ∀ t, t < 24 → l = nI t → fo_top (lf, rt, ab, vl, sz, su, ls, wh, hg, tn, pd, co, st) t ∧ ab t = nI x ∧ t ≠ x)
    (K : ∀ (lf' rt' ab' vl' sz' su' ls' wh' hg' tn' pd' co' st' : Nat → Int32) (L' : Nat → List (Nat × Int32)), fo_INV (lf', rt', ab', vl', sz', su', ls', wh', hg', tn', pd', co', st') L' pa va sb → fo_EF x l (lf, rt, ab, vl, sz, su, ls, wh, hg, tn, pd, co, st) L (lf', rt', ab', vl', sz', su', ls', wh', hg', tn', pd', co', st') L' → J (nI x) (ab' x) (nI (step + 1)) lf' rt' ab' vl' sz' su' ls' wh' hg' tn' pd' co' st')
    {hg1 : Nat → Int32} (h1 : ∀ m, m ≠ x → hg1 m = hg m) (h2 : hg1 x = hg x + fo_he sb 0 (fo_LO L (rt x))) :
    wX_expose_52 post J x1 l (nI x) (nI step) lf rt ab vl sz su ls wh hg1 tn pd co st := by
  unfold wX_expose_52
  rw [fo_cl hx]
  rcases hl with e | ⟨t, ht, e⟩
  · refine br_t (by rw [e]; exact fo_neg) (fo_e71 Y I hx tx kx (Or.inl e) hlt K h1 ?_)
    rw [e, fo_LO_n, h2]
    exact Int32.add_zero _
  · have w : wh t = fo_he sb 0 (L t) := fo_whT I ht (hlt t ht e).1
    refine br_f (by rw [e]; exact fo_nn ht) ⟨fo_in hx, by rw [e]; exact fo_in ht, fo_in hx, fun hg2 e2 => ?_⟩
    rw [e, fo_cl ht] at e2
    refine fo_e71 Y I hx tx kx (Or.inr ⟨t, ht, e⟩) hlt K (fun m h => by rw [e2, fo_un h, h1 m h]) ?_
    rw [e2, fo_us, e, fo_LO_s _ ht, w, h2]
    exact Int32.sub_add_cancel _ _
theorem fo_e7s (Y : fo_YI pa W) (I : fo_INV (lf, rt, ab, vl, sz, su, ls, wh, hg, tn, pd, co, st) L pa va sb) (hx : x < 24) (tx : fo_top (lf, rt, ab, vl, sz, su, ls, wh, hg, tn, pd, co, st) x) (kx : fo_clr (lf, rt, ab, vl, sz, su, ls, wh, hg, tn, pd, co, st) x) (hl : fo_px l) (hlt : ∀ t, t < 24 → l = nI t → fo_top (lf, rt, ab, vl, sz, su, ls, wh, hg, tn, pd, co, st) t ∧ ab t = nI x ∧ t ≠ x)
    (K : ∀ (lf' rt' ab' vl' sz' su' ls' wh' hg' tn' pd' co' st' : Nat → Int32) (L' : Nat → List (Nat × Int32)), fo_INV (lf', rt', ab', vl', sz', su', ls', wh', hg', tn', pd', co', st') L' pa va sb → fo_EF x l (lf, rt, ab, vl, sz, su, ls, wh, hg, tn, pd, co, st) L (lf', rt', ab', vl', sz', su', ls', wh', hg', tn', pd', co', st') L' → J (nI x) (ab' x) (nI (step + 1)) lf' rt' ab' vl' sz' su' ls' wh' hg' tn' pd' co' st') :
    (vp_in (nI x) 24 ∧ ((((rt x) < 0 → (wX_expose_52 post J x1 l (nI x) (nI step) lf rt ab vl sz su ls wh hg tn pd co st)) ∧ (¬ (rt x) < 0 → (vp_in (nI x) 24 ∧ (vp_in (nI x) 24 ∧ (vp_in (rt x) 24 ∧ (vp_in (nI x) 24 ∧ ∀ hg1 : Nat → Int32, hg1 = upd hg x ((hg x) + (wh (rt x).toNatClampNeg)) → (wX_expose_52 post J x1 l (nI x) (nI step) lf rt ab vl sz su ls wh hg1 tn pd co st))))))))) := by
  refine ⟨fo_in hx, ?_⟩
  rcases fo_i_rt I hx with e | ⟨r, hr, e⟩
  · have e' : rt x = -1 := e
    refine br_t (by rw [e']; exact fo_neg) (fo_e52 Y I hx tx kx hl hlt K (fun m _ => rfl) ?_)
    rw [e', fo_LO_n]
    exact (Int32.add_zero _).symm
  · have e' : rt x = nI r := e
    have w : wh r = fo_he sb 0 (L r) := fo_whB I hx tx kx hr e
    refine br_f (by rw [e']; exact fo_nn hr) ⟨fo_in hx, fo_in hx, by rw [e']; exact fo_in hr, fo_in hx, fun hg1 e1 => ?_⟩
    rw [e', fo_cl hr] at e1
    refine fo_e52 Y I hx tx kx hl hlt K (fun m h => by rw [e1, fo_un h]) ?_
    rw [e1, fo_us, e', fo_LO_s _ hr, w]
end
end
end
section
/-! exposing: the loop and the method -/
section
variable {pa va sb : Nat → Int32} {W : Nat → List Nat} {b : Nat}
theorem fo_CS_Wb {h : Nat → Int32} {e : Int32} (Y : fo_YI pa W) (hb : b < 24) {a : Int32} {w : List Nat} (A : List (Nat × Int32)) (v : Int32) (H : fo_CS pa va sb h e a (A ++ [(b, v)])) (hl : ∀ z, z ∈ fo_ns (A ++ [(b, v)]) → z < 24) (hw : fo_PT pa a w) : W b = (fo_ns (A ++ [(b, v)])).reverse ++ w := by
  have h1 := fo_CS_PT _ _ w H hl hw
  rw [fo_la_app] at h1
  exact fo_PT_uniq _ _ _ (Y b hb) h1
/-- what was taken in last hangs on y, and b is its deepest node -/
def fo_LK (u : SX) (L : Nat → List (Nat × Int32)) (b : Nat) (l y : Int32) : Prop := (l = -1 ∧ y = nI b) ∨ ∃ t, t < 24 ∧ l = nI t ∧ fo_top u t ∧ fo_ab u t = y ∧ ∃ pre v, L t = pre ++ [(b, v)]
/-- a property of the loop's states that each step keeps -/
def fo_GS (pa va sb : Nat → Int32) (W : Nat → List Nat) (b : Nat) (G : SX → (Nat → List (Nat × Int32)) → Int32 → Int32 → Prop) : Prop :=
  ∀ (u : SX) (L : Nat → List (Nat × Int32)) (u1 : SX) (L1 : Nat → List (Nat × Int32)) (u2 : SX) (L2 : Nat → List (Nat × Int32)) (l : Int32) (x : Nat), x < 24 → x ∈ W b → fo_INV u L pa va sb → fo_INV u1 L1 pa va sb → fo_INV u2 L2 pa va sb → fo_FR x u L u1 L1 → fo_top u1 x → fo_clr u1 x → (l = -1 ∨ ∃ t, t < 24 ∧ l = nI t ∧ fo_top u t ∧ fo_top u1 t ∧ L1 t = L t ∧ t ≠ x) → fo_EF x l u1 L1 u2 L2 → G u L l (nI x) → G u2 L2 (nI x) (fo_ab u2 x)
theorem fo_e7 {post : Int32 → SX → Prop} {G : SX → (Nat → List (Nat × Int32)) → Int32 → Int32 → Prop} (Y : fo_YI pa W) (hb : b < 24) (hG : fo_GS pa va sb W b G) (fuel : Nat) :
    ∀ (step : Nat) (lf rt ab vl sz su ls wh hg tn pd co st : Nat → Int32) (L : Nat → List (Nat × Int32)) (l y : Int32), 26 ≤ fuel + step → step ≤ 24 → fo_INV (lf, rt, ab, vl, sz, su, ls, wh, hg, tn, pd, co, st) L pa va sb → fo_LK (lf, rt, ab, vl, sz, su, ls, wh, hg, tn, pd, co, st) L b l y → fo_px y → (∀ x, x < 24 → y = nI x → x ∈ W b ∧ (W x).length + step ≤ 24) → G (lf, rt, ab, vl, sz, su, ls, wh, hg, tn, pd, co, st) L l y →
    (∀ (lf' rt' ab' vl' sz' su' ls' wh' hg' tn' pd' co' st' : Nat → Int32) (L' : Nat → List (Nat × Int32)) (t : Nat), fo_INV (lf', rt', ab', vl', sz', su', ls', wh', hg', tn', pd', co', st') L' pa va sb → t < 24 → fo_top (lf', rt', ab', vl', sz', su', ls', wh', hg', tn', pd', co', st') t → ab' t = -1 → (∃ pre v, L' t = pre ++ [(b, v)]) → G (lf', rt', ab', vl', sz', su', ls', wh', hg', tn', pd', co', st') L' (nI t) (-1) → wX_expose_98 post (nI b) (nI t) lf' rt' ab' vl' sz' su' ls' wh' hg' tn' pd' co' st') →
    wX_expose_7 post (nI b) fuel l y (nI step) lf rt ab vl sz su ls wh hg tn pd co st := by
  induction fuel with
  | zero =>
    intro step lf rt ab vl sz su ls wh hg tn pd co st L l y h1 h2
    omega
  | succ fuel ih =>
    intro step lf rt ab vl sz su ls wh hg tn pd co st L l y h1 h2 I K py hy g H
    have exit : y = -1 → wX_expose_98 post (nI b) l lf rt ab vl sz su ls wh hg tn pd co st := by
      intro e
      rcases K with ⟨_, k⟩ | ⟨t, ht, k1, k2, k3, k4⟩
      · exact absurd (k.symm.trans e) (fo_m1 hb)
      · subst k1
        rw [e] at k3 g
        exact H lf rt ab vl sz su ls wh hg tn pd co st L t I ht k2 k3 k4 g
    refine br_c (fun z => exit ?_) (fun z => br_c (fun w => exit ?_) (fun w => ?_))
    · rcases py with e | ⟨x, hx, e⟩
      · exact e
      · exfalso
        have a1 := (hy x hx e).2
        have a2 := fo_W_pos Y hx
        exact nI_ge (b := 24) (a := step) (by omega) (by omega) z
    · rcases py with e | ⟨x, hx, e⟩
      · exact e
      · rw [e] at w
        exact absurd w (fo_nn hx)
    · rcases py with e | ⟨x, hx, e⟩
      · rw [e] at w
        exact absurd fo_neg w
      · subst e
        obtain ⟨xW, rk⟩ := hy x hx rfl
        have rk0 := fo_W_pos Y hx
        refine fo_li I hx fun u1 L1 J1 t1 k1 F1 => ?_
        have hlk : l = -1 ∨ ∃ t, t < 24 ∧ l = nI t ∧ fo_top (lf, rt, ab, vl, sz, su, ls, wh, hg, tn, pd, co, st) t ∧ fo_top u1 t ∧ fo_ab u1 t = nI x ∧ L1 t = L t ∧ t ≠ x := by
          rcases K with ⟨k, _⟩ | ⟨t, ht, q1, q2, q3, q4⟩
          · exact Or.inl k
          · have C := fo_i_cs I ht q2
            rw [q3] at C
            have r := fo_CS_rank Y _ x hx C (fun z hz => fo_i_lt I ht hz)
            have xn : ¬ x ∈ fo_ns (L t) := fun z => by
              have := r x z
              omega
            obtain ⟨t', ht', s1, s2, s3, s4⟩ := F1 t ht q2
            have e := s4 xn
            subst e
            exact Or.inr ⟨t', ht, q1, q2, s1, s3.trans q3, s2, fun z => xn (by rw [← z]; exact fo_i_self I ht)⟩
        have hlp : fo_px l := by
          rcases hlk with e | ⟨t, ht, e, _⟩
          · exact Or.inl e
          · exact Or.inr ⟨t, ht, e⟩
        obtain ⟨lf1, rt1, ab1, vl1, sz1, su1, ls1, wh1, hg1, tn1, pd1, co1, st1⟩ := u1
        dsimp only
        rw [fo_cl hx]
        refine fo_e7s (J := wX_expose_7 post (nI b) fuel) Y J1 hx t1 k1 hlp ?_ ?_
        · intro t ht e
          rcases hlk with e2 | ⟨t2, ht2, e2, _, q1, q2, _, q3⟩
          · exact absurd (e.symm.trans e2) (fo_m1 ht)
          · have := fo_ij ht ht2 (e.symm.trans e2)
            subst this
            exact ⟨q1, q2, q3⟩
        · intro lf' rt' ab' vl' sz' su' ls' wh' hg' tn' pd' co' st' L' J2 F2
          have hpre : ∃ pre v, L' x = pre ++ [(b, v)] := by
            rw [F2.2.2.1]
            rcases K with ⟨k, k2⟩ | ⟨t, ht, q1, q2, q3, pre, v, q4⟩
            · have xb := fo_ij hx hb k2
              subst xb
              rw [k, fo_LO_n]
              exact ⟨_, _, rfl⟩
            · rcases hlk with e2 | ⟨t2, ht2, e2, _, _, _, q5, _⟩
              · exact absurd (q1.symm.trans e2) (fo_m1 ht)
              · have := fo_ij ht ht2 (q1.symm.trans e2)
                subst this
                rw [q1, fo_LO_s _ ht, q5, q4]
                exact ⟨fo_LO L1 (lf1 x) ++ (x, vl1 x) :: pre, v, by rw [List.append_assoc]; rfl⟩
          have gs := hG (lf, rt, ab, vl, sz, su, ls, wh, hg, tn, pd, co, st) L (lf1, rt1, ab1, vl1, sz1, su1, ls1, wh1, hg1, tn1, pd1, co1, st1) L1 (lf', rt', ab', vl', sz', su', ls', wh', hg', tn', pd', co', st') L' l x hx xW I J1 J2 F1 t1 k1 (by
            rcases hlk with e | ⟨t, ht, e, q1, q2, q3, q4, q5⟩
            · exact Or.inl e
            · exact Or.inr ⟨t, ht, e, q1, q2, q4, q5⟩) F2 g
          refine ih (step + 1) lf' rt' ab' vl' sz' su' ls' wh' hg' tn' pd' co' st' L' (nI x) (ab' x) (by omega) (by omega) J2 (Or.inr ⟨x, hx, rfl, F2.1, rfl, hpre⟩) (fo_i_ab J2 hx) (fun z hz ez => ?_) gs H
          have C := fo_i_cs J2 hx F2.1
          have ez' : fo_ab (lf', rt', ab', vl', sz', su', ls', wh', hg', tn', pd', co', st') x = nI z := ez
          rw [ez'] at C
          have r := fo_CS_rank Y _ z hz C (fun q hq => fo_i_lt J2 hx hq) x (fo_i_self J2 hx)
          obtain ⟨pre, v, ep⟩ := hpre
          have lt2 : ∀ q, q ∈ fo_ns (L' x) → q < 24 := fun q hq => fo_i_lt J2 hx hq
          rw [ep] at C lt2
          have wb := fo_CS_Wb Y hb pre v C lt2 (Y z hz)
          refine ⟨?_, by omega⟩
          rw [wb]
          exact List.mem_append_right _ (fo_W_self Y hz)
end
end
section
/-! exposing, the root, the parent -/
section
variable {pa va sb : Nat → Int32} {W : Nat → List Nat}
/-- the node's way is one piece with the node at its top and nothing deeper in it -/
def fo_EXP (u : SX) (b : Nat) : Prop := fo_top u b ∧ fo_clr u b ∧ fo_ab u b = -1 ∧ fo_rt u b = -1
theorem fo_rt_m1 {u : SX} {L : Nat → List (Nat × Int32)} {b : Nat} (I : fo_INV u L pa va sb) (hb : b < 24) (k : fo_clr u b) (h : ∃ pre v, L b = pre ++ [(b, v)]) : fo_rt u b = -1 := by
  obtain ⟨pre, v, h⟩ := h
  rcases fo_i_rt I hb with e | ⟨r, hr, e⟩
  · exact e
  · exfalso
    have c := fo_i_cl I hb k
    rw [e, fo_LO_s _ hr, h] at c
    rcases List.eq_nil_or_concat (L r) with z | ⟨R, q, z⟩
    · exact fo_i_ne I hr z
    · have z' : L r = R ++ [q] := by rw [z, List.concat_eq_append]
      have s3 := (fo_i_sub I hb hr (Or.inr e)).2.2
      rw [z'] at c s3
      have c2 : pre ++ [(b, v)] = (fo_LO L (fo_lf u b) ++ (b, fo_vl u b) :: R) ++ [q] := by
        rw [c, List.append_assoc]
        rfl
      have c3 := (List.append_inj' c2 rfl).2
      have c4 : q = (b, v) := (List.cons.inj c3).1.symm
      rw [c4] at s3
      exact s3 (fo_mem_app.mpr (Or.inr (fo_mem_cons.mpr (Or.inl rfl))))
theorem fo_exp_L {u : SX} {L : Nat → List (Nat × Int32)} {b : Nat} (I : fo_INV u L pa va sb) (hb : b < 24) (E : fo_EXP u b) : L b = fo_LO L (fo_lf u b) ++ [(b, fo_vl u b)] ∧ fo_CS pa va sb (fo_hg u) 0 (-1) (fo_LO L (fo_lf u b) ++ [(b, fo_vl u b)]) := by
  obtain ⟨t, k, a, r⟩ := E
  have c := fo_i_cl I hb k
  rw [r, fo_LO_n] at c
  have s := fo_i_cs I hb t
  rw [a, c] at s
  exact ⟨c, s⟩
theorem fo_exp_W {u : SX} {L : Nat → List (Nat × Int32)} {b : Nat} (Y : fo_YI pa W) (I : fo_INV u L pa va sb) (hb : b < 24) (E : fo_EXP u b) : W b = (fo_ns (L b)).reverse := by
  obtain ⟨c, s⟩ := fo_exp_L I hb E
  rw [c]
  have lt2 : ∀ q, q ∈ fo_ns (L b) → q < 24 := fun q hq => fo_i_lt I hb hq
  rw [c] at lt2
  exact fo_CS_W Y _ _ _ s lt2
theorem fo_exp_mem {u : SX} {L : Nat → List (Nat × Int32)} {b : Nat} (Y : fo_YI pa W) (I : fo_INV u L pa va sb) (hb : b < 24) (E : fo_EXP u b) (y : Nat) : y ∈ W b ↔ y ∈ fo_ns (L b) := by
  rw [fo_exp_W Y I hb E, List.mem_reverse]
theorem fo_ex {post : Int32 → SX → Prop} {u : SX} {L : Nat → List (Nat × Int32)} {b : Nat} {G : SX → (Nat → List (Nat × Int32)) → Int32 → Int32 → Prop} (Y : fo_YI pa W) (hb : b < 24) (I : fo_INV u L pa va sb) (hG : fo_GS pa va sb W b G) (g0 : G u L (-1) (nI b))
    (H : ∀ (t : Nat) (u2 : SX) (L2 : Nat → List (Nat × Int32)) (u' : SX) (L' : Nat → List (Nat × Int32)), t < 24 → fo_INV u2 L2 pa va sb → fo_top u2 t → fo_ab u2 t = -1 → (∃ pre v, L2 t = pre ++ [(b, v)]) → G u2 L2 (nI t) (-1) → fo_FR b u2 L2 u' L' → fo_INV u' L' pa va sb → fo_EXP u' b → post (nI t) u') : wpX_expose post u (nI b) := by
  obtain ⟨lf, rt, ab, vl, sz, su, ls, wh, hg, tn, pd, co, st⟩ := u
  unfold wpX_expose
  dsimp only
  refine ⟨26, fo_e7 Y hb hG 26 0 lf rt ab vl sz su ls wh hg tn pd co st L (-1) (nI b) (by omega) (by omega) I (Or.inl ⟨rfl, rfl⟩) (Or.inr ⟨b, hb, rfl⟩) (fun x hx e => ?_) g0 ?_⟩
  · have := fo_ij hb hx e
    subst this
    exact ⟨fo_W_self Y hb, fo_W_len Y hb⟩
  · intro lf' rt' ab' vl' sz' su' ls' wh' hg' tn' pd' co' st' L2 t J ht tt et hp g
    unfold wX_expose_98
    refine fo_li J hb fun u' L' J' t' k' F => ?_
    have E : fo_EXP u' b := by
      obtain ⟨s, hs, ts, e1, e2, _⟩ := F t ht tt
      obtain ⟨pre, v, hp⟩ := hp
      have mb : b ∈ fo_ns (L' s) := by
        rw [e1, hp]
        exact fo_mem_app.mpr (Or.inr (fo_mem_cons.mpr (Or.inl rfl)))
      have sb := fo_i_ntop J' hs mb t'
      subst sb
      exact ⟨t', k', e2.trans et, fo_rt_m1 J' hs k' ⟨pre, v, e1.trans hp⟩⟩
    obtain ⟨lf1, rt1, ab1, vl1, sz1, su1, ls1, wh1, hg1, tn1, pd1, co1, st1⟩ := u'
    exact H t _ L2 _ L' ht J tt et hp g F J' E
theorem fo_exs {post : Int32 → SX → Prop} {u : SX} {L : Nat → List (Nat × Int32)} {b : Nat} (Y : fo_YI pa W) (hb : b < 24) (I : fo_INV u L pa va sb)
    (H : ∀ (r : Int32) (u' : SX) (L' : Nat → List (Nat × Int32)), fo_INV u' L' pa va sb → fo_EXP u' b → post r u') : wpX_expose post u (nI b) :=
  fo_ex (G := fun _ _ _ _ => True) Y hb I (fun _ _ _ _ _ _ _ _ _ _ _ _ _ _ _ _ _ _ _ => trivial) trivial (fun t _ _ u' L' _ _ _ _ _ _ _ J E => H (nI t) u' L' J E)
theorem fo_isN {post : Int32 → Prop} {n : Nat} (hn : n < 24) (h : post 1) : wpX_isNode post (nI n) :=
  br_f (fo_nn hn) (br_f (nI_nlt (b := n) (a := 23) (by omega) (by omega)) h)
theorem fo_isB {post : Int32 → Prop} {v : Int32} (hv : v < 0 ∨ 23 < v) (h : post 0) : wpX_isNode post v :=
  br_c (fun _ => h) (fun z => br_t (hv.resolve_left z) h)
theorem fo_nb (v : Int32) : (v < 0 ∨ 23 < v) ∨ ∃ n, n < 24 ∧ v = nI n := by
  by_cases h : v < 0
  · exact Or.inl (Or.inl h)
  · obtain ⟨j, hj, e⟩ := nI_of h
    by_cases h2 : j < 24
    · exact Or.inr ⟨j, h2, e⟩
    · refine Or.inl (Or.inr ?_)
      rw [e]
      exact nI_lt (a := 23) (by omega) hj
/-- the way down to the root -/
theorem fo_rl {post : Int32 → SX → Prop} {n : Nat} (hn : n < 24) (fuel : Nat) : ∀ (step : Nat) (lf rt ab vl sz su ls wh hg tn pd co st : Nat → Int32) (L : Nat → List (Nat × Int32)) (a : Nat) (rest : List (Nat × Int32)), 25 ≤ fuel + step → a < 24 → (L a).length + step ≤ 24 → fo_INV (lf, rt, ab, vl, sz, su, ls, wh, hg, tn, pd, co, st) L pa va sb → fo_top (lf, rt, ab, vl, sz, su, ls, wh, hg, tn, pd, co, st) n → ab n = -1 → fo_clr (lf, rt, ab, vl, sz, su, ls, wh, hg, tn, pd, co, st) a → L n = L a ++ rest →
    (∀ a : Nat, pa a = -1 → a ∈ fo_ns (L n) → ∀ (u' : SX) (L' : Nat → List (Nat × Int32)), a < 24 → fo_INV u' L' pa va sb → post (nI a) u') → wX_root_24 post fuel (nI a) (nI step) lf rt ab vl sz su ls wh hg tn pd co st := by
  induction fuel with
  | zero =>
    intro step lf rt ab vl sz su ls wh hg tn pd co st L a rest h1 ha h2 I
    have := List.length_pos_of_mem (fo_i_self I ha)
    rw [fo_ns_len] at this
    omega
  | succ fuel ih =>
    intro step lf rt ab vl sz su ls wh hg tn pd co st L a rest h1 ha h2 I tt et k e0 H
    have l1 := List.length_pos_of_mem (fo_i_self I ha)
    rw [fo_ns_len] at l1
    refine br_f (nI_ge (b := 24) (by omega) (by omega)) ?_
    rw [fo_cl ha]
    refine ⟨fo_in ha, ?_⟩
    have ca : L a = fo_LO L (lf a) ++ (a, vl a) :: fo_LO L (rt a) := fo_i_cl I ha k
    rcases fo_i_lf I ha with e | ⟨c, hc, e⟩
    · have e' : lf a = -1 := e
      refine br_t (by rw [e']; exact fo_neg) ?_
      unfold wX_root_57
      refine fo_li I ha fun u' L' J' t' k' F => ?_
      have C := fo_i_cs I hn tt
      rw [e', fo_LO_n] at ca
      rw [e0, ca] at C
      have pa1 : pa a = -1 := C.1.trans et
      have ma : a ∈ fo_ns (L n) := by
        rw [e0, ca]
        exact fo_mem_cons.mpr (Or.inl rfl)
      obtain ⟨lf1, rt1, ab1, vl1, sz1, su1, ls1, wh1, hg1, tn1, pd1, co1, st1⟩ := u'
      exact H a pa1 ma _ L' ha J'
    · have e' : lf a = nI c := e
      refine br_f (by rw [e']; exact fo_nn hc) ⟨fo_in ha, fun x2 ex => ?_⟩
      rw [e'] at ex
      subst ex
      refine fo_hd I hc fun u' L' J R k' => ?_
      obtain ⟨s1, s2, s3⟩ := fo_i_sub I ha hc (Or.inl e)
      obtain ⟨r1, r2, r3, r4, r5, r6⟩ := R
      have Lc : L' c = L c := r6 c hc (fun z => fo_i_chne I hc hc z rfl)
      have Ln : L' n = L n := r6 n hn (tt c hc)
      have tn' : fo_top u' n := fun m hm z => tt m hm ((r4 m n hm).mp z)
      have an' : fo_ab u' n = -1 := by rw [r1]; exact et
      obtain ⟨lf1, rt1, ab1, vl1, sz1, su1, ls1, wh1, hg1, tn1, pd1, co1, st1⟩ := u'
      dsimp only
      intro x3 e3
      rw [nI_1] at e3
      subst e3
      refine ih (step + 1) lf1 rt1 ab1 vl1 sz1 su1 ls1 wh1 hg1 tn1 pd1 co1 st1 L' c ((a, vl a) :: fo_LO L (rt a) ++ rest) (by omega) hc (by rw [Lc]; omega) J tn' an' k' ?_ (by rw [Ln]; exact H)
      rw [Ln, Lc, e0, ca, e', fo_LO_s _ hc, List.append_assoc]
end
end
section
/-! root and parent -/
section
variable {pa va sb : Nat → Int32} {W : Nat → List Nat}
theorem fo_root {post : Int32 → SX → Prop} {u : SX} {L : Nat → List (Nat × Int32)} {n : Nat} (Y : fo_YI pa W) (hn : n < 24) (I : fo_INV u L pa va sb)
    (H : ∀ (a : Nat) (u' : SX) (L' : Nat → List (Nat × Int32)), a < 24 → a ∈ W n → pa a = -1 → fo_INV u' L' pa va sb → post (nI a) u') : wpX_root post u (nI n) := by
  obtain ⟨lf, rt, ab, vl, sz, su, ls, wh, hg, tn, pd, co, st⟩ := u
  unfold wpX_root
  dsimp only
  refine fo_isN hn (br_f fo_10 ?_)
  refine fo_exs Y hn I fun r u1 L1 J1 E1 => ?_
  have M1 := fo_exp_mem Y J1 hn E1
  obtain ⟨lf1, rt1, ab1, vl1, sz1, su1, ls1, wh1, hg1, tn1, pd1, co1, st1⟩ := u1
  dsimp only
  refine fo_hd J1 hn fun u2 L2 J2 R k => ?_
  obtain ⟨r1, r2, r3, r4, r5, r6⟩ := R
  have Ln : L2 n = L1 n := r6 n hn (E1.1 n hn)
  have t2 : fo_top u2 n := fun m hm z => E1.1 m hm ((r4 m n hm).mp z)
  have a2 : fo_ab u2 n = -1 := by rw [r1]; exact E1.2.2.1
  obtain ⟨lf2, rt2, ab2, vl2, sz2, su2, ls2, wh2, hg2, tn2, pd2, co2, st2⟩ := u2
  dsimp only
  refine ⟨25, fo_rl hn 25 0 lf2 rt2 ab2 vl2 sz2 su2 ls2 wh2 hg2 tn2 pd2 co2 st2 L2 n [] (by omega) hn (fo_i_24 J2 hn) J2 t2 a2 k (List.append_nil _).symm fun a pa1 ma u' L' ha J' => H a u' L' ha ?_ pa1 J'⟩
  rw [Ln] at ma
  exact (M1 a).mpr ma
/-- the way down to the parent -/
theorem fo_pl {post : Int32 → SX → Prop} {n : Nat} (hn : n < 24) (fuel : Nat) : ∀ (step : Nat) (lf rt ab vl sz su ls wh hg tn pd co st : Nat → Int32) (L : Nat → List (Nat × Int32)) (a : Nat) (pre : List (Nat × Int32)) (v : Int32), 25 ≤ fuel + step → a < 24 → (L a).length + step ≤ 24 → fo_INV (lf, rt, ab, vl, sz, su, ls, wh, hg, tn, pd, co, st) L pa va sb → fo_top (lf, rt, ab, vl, sz, su, ls, wh, hg, tn, pd, co, st) n → fo_clr (lf, rt, ab, vl, sz, su, ls, wh, hg, tn, pd, co, st) a → L n = pre ++ (L a ++ [(n, v)]) →
    (∀ (u' : SX) (L' : Nat → List (Nat × Int32)), fo_INV u' L' pa va sb → post (pa n) u') → wX_parent_40 post fuel (nI a) (nI step) lf rt ab vl sz su ls wh hg tn pd co st := by
  induction fuel with
  | zero =>
    intro step lf rt ab vl sz su ls wh hg tn pd co st L a pre v h1 ha h2 I
    have := List.length_pos_of_mem (fo_i_self I ha)
    rw [fo_ns_len] at this
    omega
  | succ fuel ih =>
    intro step lf rt ab vl sz su ls wh hg tn pd co st L a pre v h1 ha h2 I tt k e0 H
    have l1 := List.length_pos_of_mem (fo_i_self I ha)
    rw [fo_ns_len] at l1
    refine br_f (nI_ge (b := 24) (by omega) (by omega)) ?_
    rw [fo_cl ha]
    refine ⟨fo_in ha, ?_⟩
    have ca : L a = fo_LO L (lf a) ++ (a, vl a) :: fo_LO L (rt a) := fo_i_cl I ha k
    rcases fo_i_rt I ha with e | ⟨c, hc, e⟩
    · have e' : rt a = -1 := e
      refine br_t (by rw [e']; exact fo_neg) ?_
      unfold wX_parent_73
      refine fo_li I ha fun u' L' J' t' k' F => ?_
      have C := fo_i_cs I hn tt
      rw [e', fo_LO_n] at ca
      have e1 : L n = (pre ++ fo_LO L (lf a)) ++ ([(a, vl a)] ++ [(n, v)]) := by
        rw [e0, ca, List.append_assoc, List.append_assoc]
      rw [e1] at C
      have C2 := (fo_CS_app _ _ _).mp C
      have C3 := C2.2.2.2.2.1
      have C4 : pa n = nI a := C3
      obtain ⟨lf1, rt1, ab1, vl1, sz1, su1, ls1, wh1, hg1, tn1, pd1, co1, st1⟩ := u'
      have := H _ L' J'
      rw [C4] at this
      exact this
    · have e' : rt a = nI c := e
      refine br_f (by rw [e']; exact fo_nn hc) ⟨fo_in ha, fun x2 ex => ?_⟩
      rw [e'] at ex
      subst ex
      refine fo_hd I hc fun u' L' J R k' => ?_
      obtain ⟨s1, s2, s3⟩ := fo_i_sub I ha hc (Or.inr e)
      obtain ⟨r1, r2, r3, r4, r5, r6⟩ := R
      have Lc : L' c = L c := r6 c hc (fun z => fo_i_chne I hc hc z rfl)
      have Ln : L' n = L n := r6 n hn (tt c hc)
      have tn' : fo_top u' n := fun m hm z => tt m hm ((r4 m n hm).mp z)
      obtain ⟨lf1, rt1, ab1, vl1, sz1, su1, ls1, wh1, hg1, tn1, pd1, co1, st1⟩ := u'
      dsimp only
      intro x3 e3
      rw [nI_1] at e3
      subst e3
      refine ih (step + 1) lf1 rt1 ab1 vl1 sz1 su1 ls1 wh1 hg1 tn1 pd1 co1 st1 L' c (pre ++ (fo_LO L (lf a) ++ [(a, vl a)])) v (by omega) hc (by rw [Lc]; omega) J tn' k' ?_ H
      rw [Ln, Lc, e0, ca, e', fo_LO_s _ hc, List.append_assoc, List.append_assoc, List.append_assoc]
      rfl
theorem fo_par {post : Int32 → SX → Prop} {u : SX} {L : Nat → List (Nat × Int32)} {n : Nat} (Y : fo_YI pa W) (hn : n < 24) (I : fo_INV u L pa va sb)
    (H : ∀ (u' : SX) (L' : Nat → List (Nat × Int32)), fo_INV u' L' pa va sb → post (pa n) u') : wpX_parent post u (nI n) := by
  obtain ⟨lf, rt, ab, vl, sz, su, ls, wh, hg, tn, pd, co, st⟩ := u
  unfold wpX_parent
  dsimp only
  refine fo_isN hn (br_f fo_10 ?_)
  refine fo_exs Y hn I fun r u1 L1 J1 E1 => ?_
  obtain ⟨c1, C1⟩ := fo_exp_L J1 hn E1
  obtain ⟨lf1, rt1, ab1, vl1, sz1, su1, ls1, wh1, hg1, tn1, pd1, co1, st1⟩ := u1
  dsimp only
  refine fo_hd J1 hn fun u2 L2 J2 R k => ?_
  obtain ⟨r1, r2, r3, r4, r5, r6⟩ := R
  have Ln : L2 n = L1 n := r6 n hn (E1.1 n hn)
  have t2 : fo_top u2 n := fun m hm z => E1.1 m hm ((r4 m n hm).mp z)
  have a2 : fo_ab u2 n = -1 := by rw [r1]; exact E1.2.2.1
  have rt2' : fo_rt u2 n = -1 := fo_rt_m1 J2 hn k ⟨_, _, Ln.trans c1⟩
  have E2 : fo_EXP u2 n := ⟨t2, k, a2, rt2'⟩
  obtain ⟨c2, C2⟩ := fo_exp_L J2 hn E2
  have P2 := fo_i_lf J2 hn
  obtain ⟨lf2, rt2, ab2, vl2, sz2, su2, ls2, wh2, hg2, tn2, pd2, co2, st2⟩ := u2
  dsimp only
  rw [fo_cl hn]
  refine ⟨fo_in hn, fun x2 ex => ?_⟩
  rcases P2 with e | ⟨c, hc, e⟩
  · have e' : lf2 n = -1 := e
    rw [e'] at ex
    subst ex
    refine br_f fo_ngz ?_
    have C3 : fo_CS pa va sb hg2 0 (-1) (fo_LO L2 (lf2 n) ++ [(n, vl2 n)]) := C2
    rw [e', fo_LO_n] at C3
    have C4 : pa n = -1 := C3.1
    have := H _ L2 J2
    rw [C4] at this
    exact this
  · have e' : lf2 n = nI c := e
    rw [e'] at ex
    subst ex
    refine br_t (fo_ge hc) ?_
    have c2' : L2 n = fo_LO L2 (lf2 n) ++ [(n, vl2 n)] := c2
    rw [e', fo_LO_s _ hc] at c2'
    refine fo_hd J2 hc fun u3 L3 J3 R3 k3 => ?_
    obtain ⟨q1, q2, q3, q4, q5, q6⟩ := R3
    have Lc : L3 c = L2 c := q6 c hc (fun z => fo_i_chne J2 hc hc z rfl)
    have Ln3 : L3 n = L2 n := q6 n hn (t2 c hc)
    have t3 : fo_top u3 n := fun m hm z => t2 m hm ((q4 m n hm).mp z)
    obtain ⟨lf3, rt3, ab3, vl3, sz3, su3, ls3, wh3, hg3, tn3, pd3, co3, st3⟩ := u3
    dsimp only
    refine ⟨25, fo_pl hn 25 0 lf3 rt3 ab3 vl3 sz3 su3 ls3 wh3 hg3 tn3 pd3 co3 st3 L3 c [] (vl2 n) (by omega) hc (fo_i_24 J3 hc) J3 t3 k3 ?_ H⟩
    rw [Ln3, Lc, c2']
    rfl
end
end
section
/-! the reference's walks -/
section
variable {pa va : Nat → Int32} {W : Nat → List Nat}
theorem fo_yN {post : Int32 → Prop} {n : Nat} (hn : n < 24) (h : post 0) : wpY_bad post (nI n) := br_f (fo_nn hn) (br_t (nI_le (a := n) (b := 23) (by omega) (by omega)) h)
theorem fo_yB {post : Int32 → Prop} {v : Int32} (hv : v < 0 ∨ 23 < v) (h : post 1) : wpY_bad post v :=
  br_c (fun _ => h) (fun z => br_f (Int32.not_le.mpr (hv.resolve_left z)) h)
theorem fo_PT_x {x : Int32} {l : List Nat} (h : fo_PT pa x l) : (x = -1 ∧ l = []) ∨ ∃ m l', m < 24 ∧ x = nI m ∧ l = m :: l' ∧ fo_PT pa (pa m) l' := by
  cases l with
  | nil => exact Or.inl ⟨h, rfl⟩
  | cons m l => exact Or.inr ⟨m, l, h.2.1, h.1, rfl, h.2.2⟩
theorem fo_yr {post : Int32 → Prop} (a : Nat) (ha : pa a = -1) (hp : post (nI a)) : ∀ (l : List Nat) (x : Int32) (fuel : Nat), fo_PT pa x l → a ∈ l → l.length ≤ fuel → wY_root_11 post va pa fuel x
  | [], _, _, _, h, _ => nomatch h
  | m :: l, x, 0, _, _, hf => absurd hf (by rw [List.length_cons]; omega)
  | m :: l, x, fuel + 1, h, hm, hf => by
    have e := h.1
    subst e
    have hm24 := h.2.1
    refine And.intro (fo_in hm24) ?_
    rw [fo_cl hm24]
    rcases fo_PT_x h.2.2 with ⟨e, z⟩ | ⟨q, l', hq, e, z, _⟩
    · subst z
      have am : a = m := List.mem_singleton.mp hm
      subst am
      exact br_t (by rw [e]; exact fo_neg) hp
    · refine br_f (by rw [e]; exact fo_nn hq) ⟨fo_in hm24, fun x' ex => ?_⟩
      subst ex
      refine fo_yr a ha hp l (pa m) fuel h.2.2 ?_ (by rw [List.length_cons] at hf; omega)
      rcases List.mem_cons.mp hm with w | w
      · subst w
        exact absurd (e.symm.trans ha) (fo_m1 hq)
      · exact w
theorem fo_yroot {post : Int32 → Prop} (Y : fo_YI pa W) {n a : Nat} (hn : n < 24) (ha : pa a = -1) (hm : a ∈ W n) (hp : post (nI a)) : wpY_root post (va, pa) (nI n) := by
  unfold wpY_root
  dsimp only
  exact fo_yN hn (br_t rfl ⟨_, fo_yr a ha hp (W n) _ _ (Y n hn) hm (Nat.le_refl _)⟩)
theorem fo_yd {post : Int32 → Prop} : ∀ (l : List Nat) (m k fuel : Nat), fo_PT pa (nI m) (m :: l) → l.length < fuel → post (nI (k + l.length)) → wY_depth_13 post va pa fuel (nI k) (nI m)
  | _, _, _, 0, _, hf, _ => absurd hf (by omega)
  | l, m, k, fuel + 1, h, hf, hp => by
    have hm24 := h.2.1
    refine And.intro (fo_in hm24) ?_
    rw [fo_cl hm24]
    rcases fo_PT_x h.2.2 with ⟨e, z⟩ | ⟨q, l', hq, e, z, w⟩
    · subst z
      exact br_t (by rw [e]; exact fo_neg) hp
    · subst z
      refine br_f (by rw [e]; exact fo_nn hq) ⟨fo_in hm24, fun x' ex y ey => ?_⟩
      rw [e] at ex
      rw [nI_1] at ey
      subst ex ey
      have h2 := h.2.2
      rw [e] at h2
      rw [List.length_cons] at hf hp
      exact fo_yd l' q (k + 1) fuel h2 (by omega) (by rw [show k + 1 + l'.length = k + (l'.length + 1) by omega]; exact hp)
def fo_sv (va : Nat → Int32) : List Nat → Int32
  | [] => 0
  | n :: l => va n + fo_sv va l
def fo_mv (va : Nat → Int32) : List Nat → Int32
  | [] => 2147483647
  | n :: l => fo_mi (va n) (fo_mv va l)
theorem fo_CS_sv {sb h : Nat → Int32} {e : Int32} (l : List (Nat × Int32)) (a : Int32) (H : fo_CS pa va sb h e a l) : fo_sm l = fo_sv va (fo_ns l) ∧ fo_mn l = fo_mv va (fo_ns l) := by
  induction l generalizing a with
  | nil => exact ⟨rfl, rfl⟩
  | cons q l ih =>
    obtain ⟨h1, h2, h3, h4⟩ := H
    obtain ⟨i1, i2⟩ := ih _ h4
    constructor
    · show q.2 + fo_sm l = va q.1 + fo_sv va (fo_ns l)
      rw [i1, h2]
    · show fo_mi q.2 (fo_mn l) = fo_mi (va q.1) (fo_mv va (fo_ns l))
      rw [i2, h2]
theorem fo_sv_app (a b : List Nat) : fo_sv va (a ++ b) = fo_sv va a + fo_sv va b := by
  induction a with
  | nil => exact (Int32.zero_add _).symm
  | cons q a ih =>
    show va q + fo_sv va (a ++ b) = va q + fo_sv va a + fo_sv va b
    rw [ih, Int32.add_assoc]
theorem fo_sv_rev (a : List Nat) : fo_sv va a.reverse = fo_sv va a := by
  induction a with
  | nil => rfl
  | cons q a ih =>
    rw [List.reverse_cons, fo_sv_app, ih]
    show fo_sv va a + (va q + 0) = va q + fo_sv va a
    rw [Int32.add_zero, Int32.add_comm]
theorem fo_mv_app (a b : List Nat) : fo_mv va (a ++ b) = fo_mi (fo_mv va a) (fo_mv va b) := by
  induction a with
  | nil =>
    show fo_mv va b = fo_mi 2147483647 (fo_mv va b)
    rw [fo_mi_c, fo_mi_m]
  | cons q a ih =>
    show fo_mi (va q) (fo_mv va (a ++ b)) = fo_mi (fo_mi (va q) (fo_mv va a)) (fo_mv va b)
    rw [ih, fo_mi_a]
theorem fo_mv_rev (a : List Nat) : fo_mv va a.reverse = fo_mv va a := by
  induction a with
  | nil => rfl
  | cons q a ih =>
    rw [List.reverse_cons, fo_mv_app, ih]
    show fo_mi (fo_mv va a) (fo_mi (va q) 2147483647) = fo_mi (va q) (fo_mv va a)
    rw [fo_mi_m, fo_mi_c]
theorem fo_ys {post : Int32 → Prop} : ∀ (l : List Nat) (x s : Int32) (fuel : Nat), fo_PT pa x l → l.length < fuel → post (s + fo_sv va l) → wY_sumUp_13 post va pa fuel s x
  | _, _, _, 0, _, hf, _ => absurd hf (by omega)
  | [], x, s, fuel + 1, h, _, hp => by
    have e : x = -1 := h
    subst e
    refine br_t fo_neg ?_
    have e2 : s + fo_sv va [] = s := Int32.add_zero s
    rw [e2] at hp
    exact hp
  | m :: l, x, s, fuel + 1, h, hf, hp => by
    have e := h.1
    subst e
    have hm24 := h.2.1
    refine br_f (fo_nn hm24) ?_
    rw [fo_cl hm24]
    refine ⟨fo_in hm24, fun s' es => ⟨fo_in hm24, fun x' ex => ?_⟩⟩
    subst es ex
    rw [List.length_cons] at hf
    refine fo_ys l (pa m) _ fuel h.2.2 (by omega) ?_
    rw [Int32.add_assoc]
    exact hp
theorem fo_yl {post : Int32 → Prop} : ∀ (l : List Nat) (x s : Int32) (fuel : Nat), fo_PT pa x l → l.length < fuel → post (fo_mi s (fo_mv va l)) → wY_leastUp_23 post va pa fuel s x
  | _, _, _, 0, _, hf, _ => absurd hf (by omega)
  | [], x, s, fuel + 1, h, _, hp => by
    have e : x = -1 := h
    subst e
    refine br_t fo_neg ?_
    have e2 : fo_mi s (fo_mv va []) = s := fo_mi_m s
    rw [e2] at hp
    exact hp
  | m :: l, x, s, fuel + 1, h, hf, hp => by
    have e := h.1
    subst e
    have hm24 := h.2.1
    rw [List.length_cons] at hf
    have hp' : post (fo_mi (fo_mi s (va m)) (fo_mv va l)) := by
      rw [fo_mi_a]
      exact hp
    refine br_f (fo_nn hm24) ?_
    rw [fo_cl hm24]
    refine ⟨fo_in hm24, br_c (fun z => ⟨fo_in hm24, fun x' ex => ?_⟩) (fun z => ⟨fo_in hm24, fun s' es => ⟨fo_in hm24, fun x' ex => ?_⟩⟩)⟩
    · subst ex
      have e2 : fo_mi s (va m) = s := if_pos z
      rw [e2] at hp'
      exact fo_yl l (pa m) s fuel h.2.2 (by omega) hp'
    · subst es ex
      have e2 : fo_mi s (va m) = va m := if_neg z
      rw [e2] at hp'
      exact fo_yl l (pa m) _ fuel h.2.2 (by omega) hp'
theorem fo_yo {post : Int32 → Prop} {a : Nat} (ha : a < 24) : ∀ (l : List Nat) (x : Int32) (fuel : Nat), fo_PT pa x l → l.length < fuel → (a ∈ l → post 1) → (¬ a ∈ l → post 0) → wY_onWay_2 post (nI a) va pa fuel x
  | _, _, 0, _, hf, _, _ => absurd hf (by omega)
  | [], x, fuel + 1, h, _, h1, h0 => by
    have e : x = -1 := h
    subst e
    refine br_t fo_neg ?_
    unfold wY_onWay_21
    exact br_f (fo_m1 ha).symm (h0 (fun z => nomatch z))
  | m :: l, x, fuel + 1, h, hf, h1, h0 => by
    have e := h.1
    subst e
    have hm24 := h.2.1
    rw [List.length_cons] at hf
    refine br_f (fo_nn hm24) (br_c (fun z => ?_) (fun z => ⟨fo_in hm24, fun x' ex => ?_⟩))
    · unfold wY_onWay_21
      have am := fo_ij hm24 ha z
      subst am
      exact br_t rfl (h1 List.mem_cons_self)
    · rw [fo_cl hm24] at ex
      subst ex
      have am : a ≠ m := fun q => z (by rw [q])
      refine fo_yo ha l (pa m) fuel h.2.2 (by omega) (fun q => h1 (List.mem_cons_of_mem _ q)) (fun q => h0 (fun w => ?_))
      rcases List.mem_cons.mp w with w | w
      · exact am w
      · exact q w
theorem fo_yow {post : Int32 → Prop} (Y : fo_YI pa W) {a n : Nat} (ha : a < 24) (hn : n < 24) (h1 : a ∈ W n → post 1) (h0 : ¬ a ∈ W n → post 0) : wpY_onWay post (va, pa) (nI a) (nI n) := by
  unfold wpY_onWay
  dsimp only
  exact ⟨(W n).length + 1, fo_yo ha (W n) _ _ (Y n hn) (Nat.lt_succ_self _) h1 h0⟩
theorem fo_ym {post : Int32 → Prop} (Y : fo_YI pa W) {b : Nat} (hb : b < 24) : ∀ (l : List Nat) (x : Int32) (fuel : Nat), fo_PT pa x l → l.length < fuel → (∀ pre w, l = pre ++ W w → w < 24 → w ∈ W b → (∀ y, y ∈ pre → ¬ y ∈ W b) → post (nI w)) → ((∀ y, y ∈ l → ¬ y ∈ W b) → post (-1)) → wY_meet_18 post (nI b) va pa fuel x
  | _, _, 0, _, hf, _, _ => absurd hf (by omega)
  | [], x, fuel + 1, h, _, h1, h0 => by
    have e : x = -1 := h
    subst e
    exact br_t fo_neg (h0 (fun y z => nomatch z))
  | m :: l, x, fuel + 1, h, hf, h1, h0 => by
    have e := h.1
    subst e
    have hm24 := h.2.1
    rw [List.length_cons] at hf
    refine br_f (fo_nn hm24) ?_
    refine fo_yow Y hm24 hb (fun z => br_f fo_10 (h1 [] m (fo_PT_uniq _ _ _ h (Y m hm24)) hm24 z (fun y q => nomatch q))) (fun z => br_t rfl ⟨fo_in hm24, fun x' ex => ?_⟩)
    rw [fo_cl hm24] at ex
    subst ex
    refine fo_ym Y hb l (pa m) fuel h.2.2 (by omega) (fun pre w e hw24 hw hp => h1 (m :: pre) w (by rw [e]; rfl) hw24 hw (fun y hy => ?_)) (fun q => h0 (fun y hy => ?_))
    · rcases List.mem_cons.mp hy with w | w
      · rw [w]; exact z
      · exact hp y w
    · rcases List.mem_cons.mp hy with w | w
      · rw [w]; exact z
      · exact q y w
theorem fo_yp {post : Int32 → Prop} (Y : fo_YI pa W) {n : Nat} (hn : n < 24) (hp : post (fo_sb W va n)) : ∀ (d k : Nat), k + d = 24 → wY_sumPart_13 post (nI n) va pa (d + 1) (fo_S (fun m => if n ∈ W m then va m else 0) k) (nI k)
  | 0, k, hk => by
    have e : k = 24 := by omega
    subst e
    exact br_t (nI_le (a := 24) (b := 24) (by omega) (by omega)) hp
  | d + 1, k, hk => by
    have hk24 : k < 24 := by omega
    refine br_f (nI_ge (b := 24) hk24 (by omega)) ?_
    have ih := fo_yp Y hn hp d (k + 1) (by omega)
    refine fo_yow Y hn hk24 (fun z => br_f fo_10 ⟨fo_in hk24, fun s es y ey => ?_⟩) (fun z => br_t rfl (fun y ey => ?_))
    · rw [nI_1] at ey
      rw [fo_cl hk24] at es
      subst es ey
      have e2 : fo_S (fun m => if n ∈ W m then va m else 0) (k + 1) = fo_S (fun m => if n ∈ W m then va m else 0) k + va k := by
        show fo_S (fun m => if n ∈ W m then va m else 0) k + (if n ∈ W k then va k else 0) = _
        rw [if_pos z]
      rw [e2] at ih
      exact ih
    · rw [nI_1] at ey
      subst ey
      have e2 : fo_S (fun m => if n ∈ W m then va m else 0) (k + 1) = fo_S (fun m => if n ∈ W m then va m else 0) k := by
        show fo_S (fun m => if n ∈ W m then va m else 0) k + (if n ∈ W k then va k else 0) = _
        rw [if_neg z, Int32.add_zero]
      rw [e2] at ih
      exact ih
end
end
section
/-! the reference's walks that store -/
section
variable {pa va : Nat → Int32} {W : Nat → List Nat}
def fo_tr (pa : Nat → Int32) (f : Int32) : List Nat → Nat → Int32
  | [] => pa
  | m :: l => fo_tr (upd pa m f) (nI m) l
def fo_lt (f : Int32) : List Nat → Int32
  | [] => f
  | m :: l => fo_lt (nI m) l
def fo_RC (pa : Nat → Int32) : Int32 → List Nat → Prop
  | _, [] => True
  | f, m :: l => pa m = f ∧ fo_RC pa (nI m) l
theorem fo_tr_no (l : List Nat) : ∀ (pa : Nat → Int32) (f : Int32) (z : Nat), ¬ z ∈ l → fo_tr pa f l z = pa z := by
  induction l with
  | nil => exact fun _ _ _ _ => rfl
  | cons m l ih =>
    intro pa f z hz
    show fo_tr (upd pa m f) (nI m) l z = pa z
    rw [ih _ _ z (fun w => hz (List.mem_cons_of_mem _ w)), fo_un (fun w => hz (by rw [w]; exact List.mem_cons_self))]
theorem fo_tr_rc (l : List Nat) : ∀ (pa : Nat → Int32) (f : Int32), l.Nodup → fo_RC (fo_tr pa f l) f l := by
  induction l with
  | nil => exact fun _ _ _ => trivial
  | cons m l ih =>
    intro pa f hd
    rw [List.nodup_cons] at hd
    refine ⟨?_, ih (upd pa m f) (nI m) hd.2⟩
    show fo_tr (upd pa m f) (nI m) l m = f
    rw [fo_tr_no l _ _ m hd.1, fo_us]
theorem fo_RC_uq {p q : Nat → Int32} (l : List Nat) : ∀ f : Int32, fo_RC p f l → fo_RC q f l → ∀ z, z ∈ l → p z = q z := by
  induction l with
  | nil => exact fun _ _ _ z hz => nomatch hz
  | cons m l ih =>
    intro f hp hq z hz
    rcases List.mem_cons.mp hz with e | e
    · rw [e, hp.1, hq.1]
    · exact ih (nI m) hp.2 hq.2 z e
theorem fo_CS_RC {sb h : Nat → Int32} {e : Int32} (l : List (Nat × Int32)) : ∀ a : Int32, fo_CS pa va sb h e a l → fo_RC pa a (fo_ns l) := by
  induction l with
  | nil => exact fun _ _ => trivial
  | cons q l ih => exact fun a H => ⟨H.1, ih _ H.2.2.2⟩
theorem fo_yt {post : Int32 → SY → Prop} : ∀ (l : List Nat) (pa : Nat → Int32) (x f : Int32) (fuel : Nat), fo_PT pa x l → l.Nodup → l.length < fuel → post (fo_lt f l) (va, fo_tr pa f l) → wY_turn_13 post fuel f x va pa
  | _, _, _, _, 0, _, _, hf, _ => absurd hf (by omega)
  | [], pa, x, f, fuel + 1, h, _, _, hp => by
    have e : x = -1 := h
    subst e
    exact br_t fo_neg hp
  | m :: l, pa, x, f, fuel + 1, h, hd, hf, hp => by
    have e := h.1
    subst e
    have hm24 := h.2.1
    rw [List.nodup_cons] at hd
    rw [List.length_cons] at hf
    refine br_f (fo_nn hm24) ?_
    rw [fo_cl hm24]
    refine ⟨fo_in hm24, fun x' ex => ⟨fo_in hm24, fun pa' ep => ?_⟩⟩
    subst ex ep
    exact fo_yt l (upd pa m f) (pa m) (nI m) fuel (fo_PT_congr l _ (fun z hz => fo_un (fun w => hd.1 (by rw [← w]; exact hz))) h.2.2) hd.2 (by omega) hp
theorem fo_lt_app (a : List Nat) (m : Nat) : ∀ f : Int32, fo_lt f (a ++ [m]) = nI m := by
  induction a with
  | nil => exact fun _ => rfl
  | cons q a ih => exact fun f => ih (nI q)
theorem fo_lt_root (Y : fo_YI pa W) : ∀ (l : List Nat) (x f : Int32) (a : Nat), fo_PT pa x l → a ∈ l → pa a = -1 → fo_lt f l = nI a
  | [], _, _, _, _, h, _ => nomatch h
  | m :: l, x, f, a, h, hm, ha => by
    rcases fo_PT_x h.2.2 with ⟨e, z⟩ | ⟨q, l', hq, e, z, _⟩
    · subst z
      have am : a = m := List.mem_singleton.mp hm
      subst am
      rfl
    · refine fo_lt_root Y l (pa m) (nI m) a h.2.2 ?_ ha
      rcases List.mem_cons.mp hm with w | w
      · subst w
        exact absurd (e.symm.trans ha) (fo_m1 hq)
      · exact w
theorem fo_yc {post : Int32 → SY → Prop} {v : Int32} : ∀ (l : List Nat) (va : Nat → Int32) (x : Int32) (k fuel : Nat), fo_PT pa x l → l.length < fuel → (∀ va', (∀ z, va' z = if z ∈ l then v else va z) → post (nI (k + l.length)) (va', pa)) → wY_paint_14 post v fuel (nI k) x va pa
  | _, _, _, _, 0, _, hf, _ => absurd hf (by omega)
  | [], va, x, k, fuel + 1, h, _, hp => by
    have e : x = -1 := h
    subst e
    exact br_t fo_neg (hp va fun z => (if_neg (fun q => nomatch q)).symm)
  | m :: l, va, x, k, fuel + 1, h, hf, hp => by
    have e := h.1
    subst e
    have hm24 := h.2.1
    rw [List.length_cons] at hf hp
    refine br_f (fo_nn hm24) ?_
    rw [fo_cl hm24]
    refine ⟨fo_in hm24, fun va1 e1 y ey => ⟨fo_in hm24, fun x' ex => ?_⟩⟩
    rw [nI_1] at ey
    subst ey ex
    refine fo_yc l va1 (pa m) (k + 1) fuel h.2.2 (by omega) fun va' hv => ?_
    rw [show k + 1 + l.length = k + (l.length + 1) by omega]
    refine hp va' fun z => ?_
    rw [hv z, e1]
    by_cases a : z ∈ l
    · rw [if_pos a, if_pos (List.mem_cons_of_mem _ a)]
    · rw [if_neg a]
      by_cases b : z = m
      · rw [b, fo_us, if_pos List.mem_cons_self]
      · rw [fo_un b, if_neg]
        intro w
        rcases List.mem_cons.mp w with w | w
        · exact b w
        · exact a w
end
end
section
/-! changes at an exposed node -/
section
variable {pa va sb pa' va' sb' : Nat → Int32} {W : Nat → List Nat}
theorem fo_gen {u u' : SX} {L : Nat → List (Nat × Int32)} {M : List (Nat × Int32)} {n : Nat} (I : fo_INV u L pa va sb) (hn : n < 24) (tt : fo_top u n)
    (p1 : ∀ m, m < 24 → fo_px (fo_lf u' m) ∧ fo_px (fo_rt u' m) ∧ fo_px (fo_ab u' m))
    (p2 : ∀ m c, m < 24 → c < 24 → fo_ch u' m c → fo_ab u' c = nI m)
    (h1 : ∀ m, m < 24 → m ≠ n → fo_lf u' m = fo_lf u m ∧ fo_rt u' m = fo_rt u m ∧ fo_vl u' m = fo_vl u m ∧ fo_tn u' m = fo_tn u m ∧ fo_pd u' m = fo_pd u m ∧ fo_co u' m = fo_co u m)
    (h2 : ∀ m, m < 24 → m ≠ n → fo_sz u' m = fo_sz u m ∧ fo_su u' m = fo_su u m ∧ fo_ls u' m = fo_ls u m ∧ fo_wh u' m = fo_wh u m)
    (h3 : ∀ m, m ≠ n → fo_hg u' m = fo_hg u m)
    (cn : M = fo_tw (fo_tn u' n) (fo_pn (fo_pd u' n) (fo_co u' n) (fo_LO (fo_LS L n M) (fo_lf u' n)) ++ (n, fo_vl u' n) :: fo_pn (fo_pd u' n) (fo_co u' n) (fo_LO (fo_LS L n M) (fo_rt u' n))))
    (nd : (fo_ns M).Nodup ∧ ∀ x, x ∈ fo_ns M → x < 24)
    (ag : fo_AG (fo_sz u' n) (fo_su u' n) (fo_ls u' n) (fo_wh u' n) (fo_hg u') M)
    (cs : ∀ t, t < 24 → fo_top u' t → fo_CS pa' va' sb' (fo_hg u') 0 (fo_ab u' t) (fo_LS L n M t)) : fo_INV u' (fo_LS L n M) pa' va' sb' := by
  have nx : ∀ m, m < 24 → m ≠ n → ¬ n ∈ fo_ns (L m) := fun m hm h z => h (fo_i_ntop I hm z tt).symm
  refine fun m hm => ⟨p1 m hm, fun c hc h => p2 m c hm hc h, ?_, ?_, ?_, fun t => cs m hm t⟩
  · by_cases e : m = n
    · subst e
      rw [fo_LS_x]
      exact cn
    · obtain ⟨a1, a2, a3, a4, a5, a6⟩ := h1 m hm e
      rw [a1, a2, a3, a4, a5, a6, fo_LOs (fo_i_lf I hm) (fun z => tt m hm (Or.inl z)), fo_LOs (fo_i_rt I hm) (fun z => tt m hm (Or.inr z)), fo_LS_o e]
      exact fo_i_cn I hm
  · by_cases e : m = n
    · subst e
      rw [fo_LS_x]
      exact nd
    · rw [fo_LS_o e]
      exact (I m hm).2.2.2.1
  · by_cases e : m = n
    · subst e
      rw [fo_LS_x]
      exact ag
    · obtain ⟨a1, a2, a3, a4⟩ := h2 m hm e
      rw [fo_LS_o e, a1, a2, a3, a4]
      exact fo_AG_hg (fun y hy => h3 y (fun z => nx m hm e (by rw [z] at hy; exact hy))) (fo_i_ag I hm)
/-- other pieces keep their chain -/
theorem fo_oth {u : SX} {h' : Nat → Int32} {L : Nat → List (Nat × Int32)} {n t : Nat} (I : fo_INV u L pa va sb) (hn : n < 24) (tn : fo_top u n) (ht : t < 24) (tt : fo_top u t) (ne : t ≠ n)
    (hz : ∀ z, z ∈ fo_ns (L t) → ¬ z ∈ fo_ns (L n) → pa' z = pa z ∧ va' z = va z ∧ sb' z = sb z ∧ h' z = fo_hg u z) : fo_CS pa' va' sb' h' 0 (fo_ab u t) (L t) :=
  fo_CS_congr _ _ (fun z h => hz z h (fun q => ne (fo_i_dis I ht hn tt tn h q))) (fo_i_cs I ht tt)
theorem fo_set_law {u u' : SX} {L : Nat → List (Nat × Int32)} {n : Nat} {v : Int32} (Y : fo_YI pa W) (I : fo_INV u L pa va (fo_sb W va)) (hn : n < 24) (E : fo_EXP u n)
    (elf : fo_lf u' = fo_lf u) (ert : fo_rt u' = fo_rt u) (eab : fo_ab u' = fo_ab u) (evl : fo_vl u' = upd (fo_vl u) n v) (etn : fo_tn u' = fo_tn u) (epd : fo_pd u' = fo_pd u) (eco : fo_co u' = fo_co u) (ehg : fo_hg u' = fo_hg u)
    (ags : ∀ m, m ≠ n → fo_sz u' m = fo_sz u m ∧ fo_su u' m = fo_su u m ∧ fo_ls u' m = fo_ls u m ∧ fo_wh u' m = fo_wh u m)
    (ag : fo_AG (fo_sz u' n) (fo_su u' n) (fo_ls u' n) (fo_wh u' n) (fo_hg u) (fo_LO L (fo_lf u n) ++ (n, v) :: fo_LO L (fo_rt u n))) :
    fo_INV u' (fo_LS L n (fo_LO L (fo_lf u n) ++ [(n, v)])) pa (upd va n v) (fo_sb W (upd va n v)) := by
  obtain ⟨eL, C⟩ := fo_exp_L I hn E
  have mem := fo_exp_mem Y I hn E
  obtain ⟨tt, kk, ea, er⟩ := E
  have hch : ∀ m c, fo_ch u' m c ↔ fo_ch u m c := by
    intro m c
    unfold fo_ch
    rw [elf, ert]
  have lx : fo_lf u n ≠ nI n := fun z => fo_i_chne I hn hn (Or.inl z) rfl
  obtain ⟨CA, c1, c2, c3, _⟩ := (fo_CS_app _ _ _).mp C
  have c2' : fo_vl u n = va n := c2
  have c3' : fo_hg u n + fo_vl u n + 0 = fo_sb W va n := c3
  have CA' : fo_CS pa va (fo_sb W va) (fo_hg u) (fo_sb W va n) (-1) (fo_LO L (fo_lf u n)) := CA
  have sS := fo_sb_set W va hn v
  have s0 : ∀ z, ¬ z ∈ W n → fo_sb W (upd va n v) z = fo_sb W va z := by
    intro z hz
    rw [sS z, if_neg hz, Int32.add_zero]
  have s1 : ∀ z, z ∈ W n → fo_sb W (upd va n v) z = fo_sb W va z + (v - va n) := by
    intro z hz
    rw [sS z, if_pos hz]
  have nA : ¬ n ∈ fo_ns (fo_LO L (fo_lf u n)) := by
    have nd := fo_i_nd2 I hn
    rw [List.nodup_append] at nd
    exact fun z => nd.2.2 n z n List.mem_cons_self rfl
  have mA : ∀ z, z ∈ fo_ns (fo_LO L (fo_lf u n)) → z ∈ W n := fun z hz => (mem z).mpr ((fo_i_mem I hn z).mpr (Or.inl hz))
  have eN : fo_ns (fo_LO L (fo_lf u n) ++ [(n, v)]) = fo_ns (L n) := by
    rw [eL, fo_ns_app, fo_ns_app]
    rfl
  have CM : fo_CS pa (upd va n v) (fo_sb W (upd va n v)) (fo_hg u) 0 (-1) (fo_LO L (fo_lf u n) ++ [(n, v)]) := by
    refine (fo_CS_app _ _ _).mpr ⟨?_, c1, fo_us.symm, ?_, trivial⟩
    · show fo_CS pa (upd va n v) (fo_sb W (upd va n v)) (fo_hg u) (fo_sb W (upd va n v) n) (-1) (fo_LO L (fo_lf u n))
      rw [s1 n (fo_W_self Y hn)]
      exact fo_CS_shift _ _ _ (fun z hz => ⟨rfl, fo_un (fun e => nA (by rw [e] at hz; exact hz)), s1 z (mA z hz)⟩) CA'
    · show fo_hg u n + v + 0 = fo_sb W (upd va n v) n
      rw [s1 n (fo_W_self Y hn), ← c3', c2']
      grind
  refine fo_gen I hn tt (fun m hm => by rw [elf, ert, eab]; exact (I m hm).1) (fun m c hm hc h => by rw [eab]; exact fo_i_ch I hm hc ((hch m c).mp h))
    (fun m hm ne => ⟨by rw [elf], by rw [ert], by rw [evl, fo_un ne], by rw [etn], by rw [epd], by rw [eco]⟩) (fun m _ ne => ags m ne) (fun m _ => by rw [ehg]) ?_ ?_ ?_ ?_
  · rw [etn, epd, eco, evl, elf, ert, kk.1, kk.2, fo_us, fo_tw0, fo_pn0, fo_pn0, er, fo_LO_n, fo_LOs (fo_i_lf I hn) lx]
  · rw [eN]
    exact (I n hn).2.2.2.1
  · rw [ehg]
    rw [er, fo_LO_n] at ag
    exact ag
  · intro t ht tp
    have tp' : fo_top u t := fun m hm z => tp m hm ((hch m t).mpr z)
    rw [eab, ehg]
    by_cases e : t = n
    · subst e
      rw [fo_LS_x, ea]
      exact CM
    · rw [fo_LS_o e]
      refine fo_oth I hn tt ht tp' e fun z hz nz => ⟨rfl, fo_un (fun q => nz (by rw [q]; exact fo_i_self I hn)), s0 z (fun q => nz ((mem z).mp q)), rfl⟩
theorem fo_paint_law {u u' : SX} {L : Nat → List (Nat × Int32)} {n : Nat} {v : Int32} (Y : fo_YI pa W) (I : fo_INV u L pa va (fo_sb W va)) (hn : n < 24) (E : fo_EXP u n)
    (elf : fo_lf u' = fo_lf u) (ert : fo_rt u' = fo_rt u) (eab : fo_ab u' = fo_ab u) (etn : fo_tn u' = fo_tn u) (ehg : fo_hg u' = fo_hg u) (esz : fo_sz u' = fo_sz u)
    (hs : ∀ m, m ≠ n → fo_vl u' m = fo_vl u m ∧ fo_su u' m = fo_su u m ∧ fo_ls u' m = fo_ls u m ∧ fo_wh u' m = fo_wh u m ∧ fo_pd u' m = fo_pd u m ∧ fo_co u' m = fo_co u m)
    (k1 : fo_vl u' n = v) (k2 : ¬ fo_pd u' n = 0) (k3 : fo_co u' n = v)
    (ag : fo_AG (fo_sz u n) (fo_su u' n) (fo_ls u' n) (fo_wh u' n) (fo_hg u) (fo_mp v (L n))) :
    ∃ va', (∀ z, va' z = if z ∈ W n then v else va z) ∧ fo_INV u' (fo_LS L n (fo_mp v (L n))) pa va' (fo_sb W va') := by
  obtain ⟨eL, C⟩ := fo_exp_L I hn E
  have mem := fo_exp_mem Y I hn E
  obtain ⟨tt, kk, ea, er⟩ := E
  have hch : ∀ m c, fo_ch u' m c ↔ fo_ch u m c := by
    intro m c
    unfold fo_ch
    rw [elf, ert]
  have lx : fo_lf u n ≠ nI n := fun z => fo_i_chne I hn hn (Or.inl z) rfl
  have rx : fo_rt u n ≠ nI n := fun z => fo_i_chne I hn hn (Or.inr z) rfl
  rw [← eL] at C
  obtain ⟨va', v1, v2, v3⟩ := fo_law_paint Y v (L n).reverse va [] (by rw [List.reverse_reverse, List.append_nil]; exact fun z hz => fo_i_lt I hn hz) (by rw [List.reverse_reverse, List.append_nil]; exact C)
  rw [List.append_nil, fo_mp_rev, List.reverse_reverse] at v2
  rw [List.append_nil, List.reverse_reverse] at v3
  have v1' : ∀ z, va' z = if z ∈ W n then v else va z := by
    intro z
    rw [v1 z, fo_ns_rev]
    by_cases q : z ∈ W n
    · rw [if_pos q, if_pos (List.mem_reverse.mpr ((mem z).mp q))]
    · rw [if_neg q, if_neg (fun w => q ((mem z).mpr (List.mem_reverse.mp w)))]
  refine ⟨va', v1', ?_⟩
  refine fo_gen I hn tt (fun m hm => by rw [elf, ert, eab]; exact (I m hm).1) (fun m c hm hc h => by rw [eab]; exact fo_i_ch I hm hc ((hch m c).mp h))
    (fun m hm ne => ⟨by rw [elf], by rw [ert], (hs m ne).1, by rw [etn], (hs m ne).2.2.2.2.1, (hs m ne).2.2.2.2.2⟩) (fun m _ ne => ⟨by rw [esz], (hs m ne).2.1, (hs m ne).2.2.1, (hs m ne).2.2.2.1⟩) (fun m _ => by rw [ehg]) ?_ ?_ ?_ ?_
  · rw [etn, elf, ert, kk.1, k1, k3, fo_tw0, fo_pn1 k2, fo_pn1 k2, fo_LOs (fo_i_lf I hn) lx, fo_LOs (fo_i_rt I hn) rx, fo_i_cl I hn kk, fo_mp_app]
    rfl
  · rw [fo_ns_mp]
    exact (I n hn).2.2.2.1
  · rw [ehg, esz]
    exact ag
  · intro t ht tp
    have tp' : fo_top u t := fun m hm z => tp m hm ((hch m t).mpr z)
    rw [eab, ehg]
    by_cases e : t = n
    · subst e
      rw [fo_LS_x, ea]
      exact v2
    · rw [fo_LS_o e]
      refine fo_oth I hn tt ht tp' e fun z hz nz => ⟨rfl, ?_, v3 z nz, rfl⟩
      rw [v1' z, if_neg (fun q => nz ((mem z).mp q))]
theorem fo_turn_law {u u' : SX} {L : Nat → List (Nat × Int32)} {n : Nat} (Y : fo_YI pa W) (I : fo_INV u L pa va (fo_sb W va)) (hn : n < 24) (E : fo_EXP u n)
    (elf : fo_lf u' = fo_lf u) (ert : fo_rt u' = fo_rt u) (eab : fo_ab u' = fo_ab u) (evl : fo_vl u' = fo_vl u) (epd : fo_pd u' = fo_pd u) (eco : fo_co u' = fo_co u) (ehg : fo_hg u' = fo_hg u) (esz : fo_sz u' = fo_sz u) (esu : fo_su u' = fo_su u) (els : fo_ls u' = fo_ls u) (ewh : fo_wh u' = fo_wh u)
    (hs : ∀ m, m ≠ n → fo_tn u' m = fo_tn u m) (k1 : ¬ fo_tn u' n = 0) :
    ∃ W', fo_YI (fo_tr pa (-1) (W n)) W' ∧ fo_INV u' (fo_LS L n (L n).reverse) (fo_tr pa (-1) (W n)) va (fo_sb W' va) := by
  obtain ⟨eL, C⟩ := fo_exp_L I hn E
  have mem := fo_exp_mem Y I hn E
  have eW := fo_exp_W Y I hn E
  obtain ⟨tt, kk, ea, er⟩ := E
  have hch : ∀ m c, fo_ch u' m c ↔ fo_ch u m c := by
    intro m c
    unfold fo_ch
    rw [elf, ert]
  have lx : fo_lf u n ≠ nI n := fun z => fo_i_chne I hn hn (Or.inl z) rfl
  have rx : fo_rt u n ≠ nI n := fun z => fo_i_chne I hn hn (Or.inr z) rfl
  rw [← eL] at C
  have key : ∃ pa' W', fo_YI pa' W' ∧ fo_CS pa' va (fo_sb W' va) (fo_hg u) 0 (-1) (L n).reverse ∧ (∀ z, ¬ z ∈ fo_ns (L n) → pa' z = pa z) ∧ (∀ z, ¬ z ∈ fo_ns (L n) → fo_sb W' va z = fo_sb W va z) := by
    have nd := fo_i_nd I hn
    have lt := fun z hz => fo_i_lt I hn (x := z) hz
    cases hq : L n with
    | nil => exact absurd hq (fo_i_ne I hn)
    | cons q l =>
      rw [hq] at C nd lt
      obtain ⟨x, v⟩ := q
      obtain ⟨c1, c2, c3, c4⟩ := C
      have c3' : fo_hg u x + v + fo_he (fo_sb W va) 0 l = fo_sb W va x := c3
      obtain ⟨pa', W', d1, d2, d3, d4⟩ := fo_law_turn l pa W x v [] Y (lt x (fo_mem_cons.mpr (Or.inl rfl))) (fun z hz => lt z (fo_mem_cons.mpr (Or.inr hz))) nd c1 c2 (by rw [c3']; exact Int32.add_zero _) c4 trivial
      refine ⟨pa', W', d1, ?_, d3, d4⟩
      rw [List.reverse_cons]
      exact d2
  obtain ⟨pa', W', d1, d2, d3, d4⟩ := key
  have rc := fo_CS_RC _ _ d2
  rw [fo_ns_rev, ← eW] at rc
  have e : pa' = fo_tr pa (-1) (W n) := by
    funext z
    by_cases q : z ∈ W n
    · exact fo_RC_uq (W n) (-1) rc (fo_tr_rc (W n) pa (-1) (fo_PT_nd Y _ _ (Y n hn))) z q
    · rw [fo_tr_no _ _ _ _ q, d3 z (fun w => q ((mem z).mpr w))]
  rw [← e]
  refine ⟨W', d1, ?_⟩
  refine fo_gen I hn tt (fun m hm => by rw [elf, ert, eab]; exact (I m hm).1) (fun m c hm hc h => by rw [eab]; exact fo_i_ch I hm hc ((hch m c).mp h))
    (fun m hm ne => ⟨by rw [elf], by rw [ert], by rw [evl], hs m ne, by rw [epd], by rw [eco]⟩) (fun m _ ne => ⟨by rw [esz], by rw [esu], by rw [els], by rw [ewh]⟩) (fun m _ => by rw [ehg]) ?_ ?_ ?_ ?_
  · rw [elf, ert, evl, epd, eco, kk.2, fo_tw1 k1, fo_pn0, fo_pn0, fo_LOs (fo_i_lf I hn) lx, fo_LOs (fo_i_rt I hn) rx]
    exact congrArg List.reverse (fo_i_cl I hn kk)
  · rw [fo_ns_rev]
    exact ⟨(List.reverse_perm _).symm.nodup (fo_i_nd I hn), fun x hx => fo_i_lt I hn (List.mem_reverse.mp hx)⟩
  · rw [ehg, esz, esu, els, ewh]
    exact fo_AG_rev (fo_i_ag I hn)
  · intro t ht tp
    have tp' : fo_top u t := fun m hm z => tp m hm ((hch m t).mpr z)
    rw [eab, ehg]
    by_cases e : t = n
    · subst e
      rw [fo_LS_x, ea]
      exact d2
    · rw [fo_LS_o e]
      exact fo_oth I hn tt ht tp' e fun z hz nz => ⟨d3 z nz, rfl, d4 z nz, rfl⟩
end
end
section
/-! joining and cutting -/
section
variable {pa va : Nat → Int32} {W : Nat → List Nat}
theorem fo_link_law {u u' : SX} {L : Nat → List (Nat × Int32)} {c p : Nat} {w : Int32} (Y : fo_YI pa W) (I : fo_INV u L pa va (fo_sb W va)) (hc : c < 24) (hp : p < 24) (E : fo_EXP u p) (tc : fo_top u c) (ac : fo_ab u c = -1) (eLc : L c = [(c, w)]) (ncp : ¬ c ∈ W p)
    (elf : fo_lf u' = fo_lf u) (ert : fo_rt u' = fo_rt u) (eab : fo_ab u' = upd (fo_ab u) c (nI p)) (evl : fo_vl u' = fo_vl u) (etn : fo_tn u' = fo_tn u) (epd : fo_pd u' = fo_pd u) (eco : fo_co u' = fo_co u) (ehg : fo_hg u' = upd (fo_hg u) p (fo_hg u p + fo_wh u c))
    (ags : ∀ m, m ≠ p → fo_sz u' m = fo_sz u m ∧ fo_su u' m = fo_su u m ∧ fo_ls u' m = fo_ls u m ∧ fo_wh u' m = fo_wh u m)
    (ag : fo_AG (fo_sz u' p) (fo_su u' p) (fo_ls u' p) (fo_wh u' p) (fo_hg u') (fo_LO L (fo_lf u p) ++ (p, fo_vl u p) :: fo_LO L (fo_rt u p))) :
    ∃ W', fo_YI (upd pa c (nI p)) W' ∧ fo_INV u' (fo_LS L p (L p)) (upd pa c (nI p)) va (fo_sb W' va) := by
  obtain ⟨eL, C⟩ := fo_exp_L I hp E
  have mem := fo_exp_mem Y I hp E
  obtain ⟨tt, kk, ea, er⟩ := E
  have wc : fo_wh u c = fo_sb W va c := by
    have := fo_whT I hc tc
    rw [eLc] at this
    exact this
  have Cc := fo_i_cs I hc tc
  rw [ac, eLc] at Cc
  obtain ⟨g1, g2, g3, _⟩ := Cc
  have g1' : pa c = -1 := g1
  obtain ⟨W', Y', s⟩ := fo_law_link Y hc hp g1' ncp
  have cp : c ≠ p := fun e => ncp (by rw [e]; exact fo_W_self Y hp)
  have hch : ∀ m c, fo_ch u' m c ↔ fo_ch u m c := by
    intro m c
    unfold fo_ch
    rw [elf, ert]
  have s1 : ∀ z, z ∈ W p → fo_sb W' va z = fo_sb W va z + fo_sb W va c := fun z hz => by rw [s va z, if_pos hz]
  have s0 : ∀ z, ¬ z ∈ W p → fo_sb W' va z = fo_sb W va z := fun z hz => by rw [s va z, if_neg hz, Int32.add_zero]
  have lx : fo_lf u p ≠ nI p := fun z => fo_i_chne I hp hp (Or.inl z) rfl
  have rx : fo_rt u p ≠ nI p := fun z => fo_i_chne I hp hp (Or.inr z) rfl
  obtain ⟨CA, c1, c2, c3, _⟩ := (fo_CS_app _ _ _).mp C
  have c3' : fo_hg u p + fo_vl u p + 0 = fo_sb W va p := c3
  have c1' : pa p = fo_la (-1) (fo_LO L (fo_lf u p)) := c1
  have CA' : fo_CS pa va (fo_sb W va) (fo_hg u) (fo_sb W va p) (-1) (fo_LO L (fo_lf u p)) := CA
  have nA : ¬ p ∈ fo_ns (fo_LO L (fo_lf u p)) := by
    have nd := fo_i_nd2 I hp
    rw [List.nodup_append] at nd
    exact fun z => nd.2.2 p z p List.mem_cons_self rfl
  have mA : ∀ z, z ∈ fo_ns (fo_LO L (fo_lf u p)) → z ∈ W p := fun z hz => (mem z).mpr ((fo_i_mem I hp z).mpr (Or.inl hz))
  have CM : fo_CS (upd pa c (nI p)) va (fo_sb W' va) (fo_hg u') 0 (-1) (L p) := by
    rw [eL, ehg]
    refine (fo_CS_app _ _ _).mpr ⟨?_, (fo_un (Ne.symm cp)).trans c1', c2, ?_, trivial⟩
    · show fo_CS (upd pa c (nI p)) va (fo_sb W' va) (upd (fo_hg u) p (fo_hg u p + fo_wh u c)) (fo_sb W' va p) (-1) (fo_LO L (fo_lf u p))
      rw [s1 p (fo_W_self Y hp)]
      have D := fo_CS_shift (pa' := upd pa c (nI p)) (va' := va) (sb' := fo_sb W' va) (fo_sb W va c) _ _ (fun z hz => ⟨fo_un (fun e => ncp (by rw [← e]; exact mA z hz)), rfl, s1 z (mA z hz)⟩) CA'
      exact fo_CS_congr _ _ (fun z hz => ⟨rfl, rfl, rfl, fo_un (fun e => nA (by rw [e] at hz; exact hz))⟩) D
    · show upd (fo_hg u) p (fo_hg u p + fo_wh u c) p + fo_vl u p + 0 = fo_sb W' va p
      rw [fo_us, s1 p (fo_W_self Y hp), ← c3', wc]
      grind
  refine ⟨W', Y', ?_⟩
  refine fo_gen I hp tt (fun m hm => ?_) (fun m d hm hd h => ?_)
    (fun m hm ne => ⟨by rw [elf], by rw [ert], by rw [evl], by rw [etn], by rw [epd], by rw [eco]⟩) (fun m _ ne => ags m ne) (fun m ne => by rw [ehg, fo_un ne]) ?_ ?_ ?_ ?_
  · rw [elf, ert, eab]
    refine ⟨fo_i_lf I hm, fo_i_rt I hm, ?_⟩
    by_cases e : m = c
    · rw [e, fo_us]
      exact Or.inr ⟨p, hp, rfl⟩
    · rw [fo_un e]
      exact fo_i_ab I hm
  · have h' := (hch m d).mp h
    rw [eab, fo_un (fun e => tc m hm (by rw [← e]; exact h'))]
    exact fo_i_ch I hm hd h'
  · rw [elf, ert, evl, etn, epd, eco, kk.1, kk.2, fo_tw0, fo_pn0, fo_pn0, fo_LOs (fo_i_lf I hp) lx, fo_LOs (fo_i_rt I hp) rx]
    exact fo_i_cl I hp kk
  · exact (I p hp).2.2.2.1
  · rw [← fo_i_cl I hp kk] at ag
    exact ag
  · intro t ht tp
    have tp' : fo_top u t := fun m hm z => tp m hm ((hch m t).mpr z)
    by_cases e : t = p
    · subst e
      rw [fo_LS_x, eab, fo_un (Ne.symm cp), ea]
      exact CM
    · rw [fo_LS_o e]
      by_cases e2 : t = c
      · subst e2
        rw [eLc, eab, fo_us]
        refine ⟨fo_us, g2, ?_, trivial⟩
        show fo_hg u' t + w + 0 = fo_sb W' va t
        rw [s0 t ncp, ehg, fo_un e]
        exact g3
      · rw [eab, fo_un e2]
        refine fo_oth I hp tt ht tp' e fun z hz nz => ⟨fo_un (fun q => ?_), rfl, s0 z (fun q => nz ((mem z).mp q)), ?_⟩
        · rw [q] at hz
          exact e2 (fo_i_ntop I ht hz tc).symm
        · rw [ehg]
          exact fo_un (fun q => nz (by rw [q]; exact fo_i_self I hp))
theorem fo_cut_law {u u' : SX} {L : Nat → List (Nat × Int32)} {n p l : Nat} (Y : fo_YI pa W) (I : fo_INV u L pa va (fo_sb W va)) (hn : n < 24) (hp : p < 24) (hl : l < 24) (E : fo_EXP u n) (epa : pa n = nI p) (el : fo_lf u n = nI l)
    (elf : fo_lf u' = upd (fo_lf u) n (-1)) (ert : fo_rt u' = fo_rt u) (eab : fo_ab u' = upd (fo_ab u) l (-1)) (evl : fo_vl u' = fo_vl u) (etn : fo_tn u' = fo_tn u) (epd : fo_pd u' = fo_pd u) (eco : fo_co u' = fo_co u) (ehg : fo_hg u' = fo_hg u)
    (ags : ∀ m, m ≠ n → fo_sz u' m = fo_sz u m ∧ fo_su u' m = fo_su u m ∧ fo_ls u' m = fo_ls u m ∧ fo_wh u' m = fo_wh u m)
    (ag : fo_AG (fo_sz u' n) (fo_su u' n) (fo_ls u' n) (fo_wh u' n) (fo_hg u') [(n, fo_vl u n)]) :
    ∃ W', fo_YI (upd pa n (-1)) W' ∧ fo_INV u' (fo_LS L n [(n, fo_vl u n)]) (upd pa n (-1)) va (fo_sb W' va) := by
  obtain ⟨eL, C⟩ := fo_exp_L I hn E
  have mem := fo_exp_mem Y I hn E
  obtain ⟨tt, kk, ea, er⟩ := E
  obtain ⟨W', Y', s⟩ := fo_law_cut Y hn hp epa
  have Wn := fo_W_up Y hn hp epa
  have nd0 := fo_PT_nd Y _ _ (Y n hn)
  rw [Wn, List.nodup_cons] at nd0
  have nWp : ¬ n ∈ W p := nd0.1
  have chl : fo_ch u n l := Or.inl el
  have ln : l ≠ n := fo_i_chne I hn hl chl
  have s1 : ∀ z, z ∈ W p → fo_sb W' va z = fo_sb W va z + (0 - fo_sb W va n) := fun z hz => by
    have := s va z
    rw [if_pos hz] at this
    rw [this]
    generalize fo_sb W' va z = q1
    generalize fo_sb W va n = q2
    grind
  have s0 : ∀ z, ¬ z ∈ W p → fo_sb W' va z = fo_sb W va z := fun z hz => by
    have := s va z
    rw [if_neg hz, Int32.add_zero] at this
    exact this.symm
  rw [el, fo_LO_s _ hl] at C
  obtain ⟨CA, c1, c2, c3, _⟩ := (fo_CS_app _ _ _).mp C
  have c2' : fo_vl u n = va n := c2
  have c3' : fo_hg u n + fo_vl u n + 0 = fo_sb W va n := c3
  have CA' : fo_CS pa va (fo_sb W va) (fo_hg u) (fo_sb W va n) (-1) (L l) := CA
  obtain ⟨q1, q2, q3⟩ := fo_i_sub I hn hl chl
  have mA : ∀ z, z ∈ fo_ns (L l) → z ∈ W p := by
    intro z hz
    have h := (mem z).mpr (q1 z hz)
    rw [Wn] at h
    rcases List.mem_cons.mp h with e | e
    · rw [e] at hz
      exact absurd hz q3
    · exact e
  have CL : fo_CS (upd pa n (-1)) va (fo_sb W' va) (fo_hg u) 0 (-1) (L l) := by
    have D := fo_CS_shift (pa' := upd pa n (-1)) (va' := va) (sb' := fo_sb W' va) (0 - fo_sb W va n) _ _ (fun z hz => ⟨fo_un (fun e => nWp (by rw [← e]; exact mA z hz)), rfl, s1 z (mA z hz)⟩) CA'
    have e0 : fo_sb W va n + (0 - fo_sb W va n) = 0 := by
      generalize fo_sb W va n = q
      grind
    rw [e0] at D
    exact D
  have chx : ∀ m d, m < 24 → d < 24 → fo_ch u' m d → m ≠ n ∧ fo_ch u m d := by
    intro m d hm hd h
    by_cases e : m = n
    · subst e
      rcases h with h | h
      · rw [elf, fo_us] at h
        exact absurd h.symm (fo_m1 hd)
      · rw [ert, er] at h
        exact absurd h.symm (fo_m1 hd)
    · refine ⟨e, ?_⟩
      rcases h with h | h
      · rw [elf, fo_un e] at h
        exact Or.inl h
      · rw [ert] at h
        exact Or.inr h
  refine ⟨W', Y', ?_⟩
  refine fo_gen I hn tt (fun m hm => ?_) (fun m d hm hd h => ?_)
    (fun m hm ne => ⟨by rw [elf, fo_un ne], by rw [ert], by rw [evl], by rw [etn], by rw [epd], by rw [eco]⟩) (fun m _ ne => ags m ne) (fun m ne => by rw [ehg]) ?_ ?_ ?_ ?_
  · rw [elf, ert, eab]
    refine ⟨?_, fo_i_rt I hm, ?_⟩
    · by_cases e : m = n
      · rw [e, fo_us]; exact Or.inl rfl
      · rw [fo_un e]; exact fo_i_lf I hm
    · by_cases e : m = l
      · rw [e, fo_us]; exact Or.inl rfl
      · rw [fo_un e]; exact fo_i_ab I hm
  · obtain ⟨e, h'⟩ := chx m d hm hd h
    rw [eab, fo_un (fun z => e (fo_i_up1 I hm hn hl (by rw [← z]; exact h') chl))]
    exact fo_i_ch I hm hd h'
  · rw [elf, ert, evl, etn, epd, eco, kk.1, kk.2, fo_tw0, fo_pn0, fo_pn0, fo_us, er, fo_LO_n]
    rfl
  · refine ⟨List.nodup_cons.mpr ⟨fun z => (nomatch z), List.nodup_nil⟩, fun x hx => ?_⟩
    rcases fo_mem_cons.mp hx with e | e
    · rw [e]; exact hn
    · exact absurd e fo_mem_nil
  · exact ag
  · intro t ht tp
    rw [ehg]
    by_cases e : t = n
    · subst e
      rw [fo_LS_x, eab, fo_un ln.symm, ea]
      refine ⟨fo_us, c2, ?_, trivial⟩
      show fo_hg u t + fo_vl u t + 0 = fo_sb W' va t
      rw [s0 t nWp]
      exact c3'
    · rw [fo_LS_o e]
      by_cases e2 : t = l
      · subst e2
        rw [eab, fo_us]
        exact CL
      · rw [eab, fo_un e2]
        have tp' : fo_top u t := by
          intro m hm z
          by_cases mn : m = n
          · subst mn
            rcases z with z | z
            · exact e2 (fo_ij ht hl (z.symm.trans el))
            · rw [er] at z
              exact fo_m1 ht z.symm
          · refine tp m hm ?_
            rcases z with z | z
            · exact Or.inl (by rw [elf, fo_un mn]; exact z)
            · exact Or.inr (by rw [ert]; exact z)
        refine fo_oth I hn tt ht tp' e fun z hz nz => ⟨fo_un (fun q => nz (by rw [q]; exact fo_i_self I hn)), rfl, s0 z (fun q => nz ((mem z).mp ?_)), rfl⟩
        rw [Wn]
        exact List.mem_cons_of_mem _ q
end
end
section
/-! the relation; what both sides answer -/
def i_Rel (k : Nat) (u : SX) (v : SY) : Prop := ∃ (L : Nat → List (Nat × Int32)) (W : Nat → List Nat), fo_INV u L v.2 v.1 (fo_sb W v.1) ∧ fo_YI v.2 W
theorem i_up {k : Nat} {u : SX} {v : SY} (h : i_Rel k u v) : i_Rel (k + 3) u v := h
section
variable {lf rt ab vl sz su ls wh hg tn pd co st : Nat → Int32}
theorem fo_xinit {post : SX → Prop} : ∀ (d k : Nat) (lf rt ab sz : Nat → Int32), k + d = 24 → (∀ j, j < k → lf j = -1 ∧ rt j = -1 ∧ ab j = -1 ∧ sz j = 1) →
    (∀ lf rt ab sz : Nat → Int32, (∀ j, j < 24 → lf j = -1 ∧ rt j = -1 ∧ ab j = -1 ∧ sz j = 1) → post (lf, rt, ab, vl, sz, su, ls, wh, hg, tn, pd, co, st)) → wX_init_110 post (d + 1) (nI k) lf rt ab vl sz su ls wh hg tn pd co st
  | 0, k, lf, rt, ab, sz, hk, h, H => by
    have e : k = 24 := by omega
    subst e
    exact br_t (nI_le (a := 24) (b := 24) (by omega) (by omega)) (H lf rt ab sz h)
  | d + 1, k, lf, rt, ab, sz, hk, h, H => by
    have hk24 : k < 24 := by omega
    refine br_f (nI_ge (b := 24) hk24 (by omega)) ⟨fo_in hk24, fun lf1 e1 => ⟨fo_in hk24, fun rt1 e2 => ⟨fo_in hk24, fun ab1 e3 => ⟨fo_in hk24, fun sz1 e4 x1 e5 => ?_⟩⟩⟩⟩
    rw [fo_cl hk24] at e1 e2 e3 e4
    rw [nI_1] at e5
    subst e5
    refine fo_xinit d (k + 1) lf1 rt1 ab1 sz1 (by omega) (fun j hj => ?_) H
    by_cases e : j = k
    · rw [e1, e2, e3, e4, e, fo_us, fo_us, fo_us, fo_us]
      exact ⟨rfl, rfl, rfl, rfl⟩
    · rw [e1, e2, e3, e4, fo_un e, fo_un e, fo_un e, fo_un e]
      exact h j (by omega)
theorem fo_yinit {post : SY → Prop} {va : Nat → Int32} : ∀ (d k : Nat) (pa : Nat → Int32), k + d = 24 → (∀ j, j < k → pa j = -1) → (∀ pa : Nat → Int32, (∀ j, j < 24 → pa j = -1) → post (va, pa)) → wY_init_22 post (d + 1) (nI k) va pa
  | 0, k, pa, hk, h, H => by
    have e : k = 24 := by omega
    subst e
    exact br_t (nI_le (a := 24) (b := 24) (by omega) (by omega)) (H pa h)
  | d + 1, k, pa, hk, h, H => by
    have hk24 : k < 24 := by omega
    refine br_f (nI_ge (b := 24) hk24 (by omega)) ⟨fo_in hk24, fun pa1 e1 x1 e5 => ?_⟩
    rw [fo_cl hk24] at e1
    rw [nI_1] at e5
    subst e5
    refine fo_yinit d (k + 1) pa1 (by omega) (fun j hj => ?_) H
    by_cases e : j = k
    · rw [e1, e, fo_us]
    · rw [e1, fo_un e]
      exact h j (by omega)
end
theorem fo_sb0 (W : Nat → List Nat) (x : Nat) : fo_sb W (fun _ => 0) x = 0 := by
  unfold fo_sb
  refine (fo_S_congr 24 fun m _ => ?_).trans (fo_S_zero 24)
  show (if x ∈ W m then (0 : Int32) else 0) = 0
  split <;> rfl
theorem i_vc0 : wpX_init (fun u => wpY_init (fun v => i_Rel 0 u v)) := by
  unfold wpX_init
  refine ⟨25, fo_xinit 24 0 _ _ _ _ (by omega) (fun j hj => absurd hj (by omega)) fun lf rt ab sz h => ?_⟩
  unfold wpY_init
  refine ⟨25, fo_yinit 24 0 _ (by omega) (fun j hj => absurd hj (by omega)) fun pa hp => ?_⟩
  refine ⟨fun n => [(n, 0)], fun n => [n], fun n hn => ?_, fun n hn => ⟨rfl, hn, hp n hn⟩⟩
  obtain ⟨h1, h2, h3, h4⟩ := h n hn
  have nch : ∀ m c, m < 24 → c < 24 → ¬ fo_ch (lf, rt, ab, (fun _ => (0 : Int32)), sz, (fun _ => (0 : Int32)), (fun _ => (0 : Int32)), (fun _ => (0 : Int32)), (fun _ => (0 : Int32)), (fun _ => (0 : Int32)), (fun _ => (0 : Int32)), (fun _ => (0 : Int32)), (fun _ => (0 : Int32))) m c := by
    intro m c hm hc z
    rcases z with z | z
    · exact fo_m1 hc (z.symm.trans (h m hm).1)
    · exact fo_m1 hc (z.symm.trans (h m hm).2.1)
  refine ⟨⟨Or.inl h1, Or.inl h2, Or.inl h3⟩, fun c hc z => absurd z (nch n c hn hc), ?_, ?_, ?_, fun _ => ?_⟩
  · show [(n, (0 : Int32))] = fo_tw 0 (fo_pn 0 0 (fo_LO _ (lf n)) ++ (n, 0) :: fo_pn 0 0 (fo_LO _ (rt n)))
    rw [h1, h2, fo_tw0, fo_pn0, fo_LO_n]
    rfl
  · refine ⟨List.nodup_cons.mpr ⟨fun z => (nomatch z), List.nodup_nil⟩, fun x hx => ?_⟩
    rcases fo_mem_cons.mp hx with e | e
    · rw [e]; exact hn
    · exact absurd e fo_mem_nil
  · have a := fo_AG_one (fun _ => 0) n 0
    show fo_AG (sz n) 0 0 0 (fun _ => 0) [(n, 0)]
    rw [h4]
    exact a
  · refine ⟨(hp n hn).trans h3.symm, rfl, ?_, trivial⟩
    show (0 : Int32) + 0 + 0 = fo_sb _ (fun _ => 0) n
    rw [fo_sb0]
    rfl
end
section
/-! questions -/
theorem i_vc_root {k : Nat} {u : SX} {v : SY} (I : i_Rel k u v) (hk : k + 3 ≤ 1536) (v1 : Int32) : wpX_root (fun r u' => wpY_root (fun r' => r' = r ∧ i_Rel (k + 3) u' v) v v1) u v1 := by
  obtain ⟨L, W, I, Y⟩ := I
  obtain ⟨va, pa⟩ := v
  rcases fo_nb v1 with hb | ⟨n, hn, e⟩
  · obtain ⟨lf, rt, ab, vl, sz, su, ls, wh, hg, tn, pd, co, st⟩ := u
    unfold wpX_root
    dsimp only
    refine fo_isB hb (br_t rfl ?_)
    unfold wpY_root
    dsimp only
    exact fo_yB hb (br_f fo_10 ⟨rfl, L, W, I, Y⟩)
  · subst e
    refine fo_root Y hn I fun a u' L' ha hm hr J => ?_
    exact fo_yroot Y hn hr hm ⟨rfl, L', W, J, Y⟩
theorem i_vc_parent {k : Nat} {u : SX} {v : SY} (I : i_Rel k u v) (hk : k + 3 ≤ 1536) (v1 : Int32) : wpX_parent (fun r u' => wpY_parent (fun r' => r' = r ∧ i_Rel (k + 3) u' v) v v1) u v1 := by
  obtain ⟨L, W, I, Y⟩ := I
  obtain ⟨va, pa⟩ := v
  rcases fo_nb v1 with hb | ⟨n, hn, e⟩
  · obtain ⟨lf, rt, ab, vl, sz, su, ls, wh, hg, tn, pd, co, st⟩ := u
    unfold wpX_parent
    dsimp only
    refine fo_isB hb (br_t rfl ?_)
    unfold wpY_parent
    dsimp only
    exact fo_yB hb (br_f fo_10 ⟨rfl, L, W, I, Y⟩)
  · subst e
    refine fo_par Y hn I fun u' L' J => ?_
    unfold wpY_parent
    dsimp only
    rw [fo_cl hn]
    exact fo_yN hn (br_t rfl ⟨fo_in hn, rfl, L', W, J, Y⟩)
theorem fo_len_W {pa va sb : Nat → Int32} {W : Nat → List Nat} {u : SX} {L : Nat → List (Nat × Int32)} {n : Nat} (Y : fo_YI pa W) (I : fo_INV u L pa va sb) (hn : n < 24) (E : fo_EXP u n) : (W n).length = (L n).length := by
  rw [fo_exp_W Y I hn E, List.length_reverse, fo_ns_len]
theorem i_vc_depth {k : Nat} {u : SX} {v : SY} (I : i_Rel k u v) (hk : k + 3 ≤ 1536) (v1 : Int32) : wpX_depth (fun r u' => wpY_depth (fun r' => r' = r ∧ i_Rel (k + 3) u' v) v v1) u v1 := by
  obtain ⟨L, W, I, Y⟩ := I
  obtain ⟨va, pa⟩ := v
  rcases fo_nb v1 with hb | ⟨n, hn, e⟩
  · obtain ⟨lf, rt, ab, vl, sz, su, ls, wh, hg, tn, pd, co, st⟩ := u
    unfold wpX_depth
    dsimp only
    refine fo_isB hb (br_t rfl ?_)
    unfold wpY_depth
    dsimp only
    exact fo_yB hb (br_f fo_10 ⟨rfl, L, W, I, Y⟩)
  · subst e
    obtain ⟨lf, rt, ab, vl, sz, su, ls, wh, hg, tn, pd, co, st⟩ := u
    unfold wpX_depth
    dsimp only
    refine fo_isN hn (br_f fo_10 (fo_exs Y hn I fun r u1 L1 J1 E1 => ?_))
    have A1 := (fo_i_ag J1 hn).1
    have l1 := fo_len_W Y J1 hn E1
    obtain ⟨lf1, rt1, ab1, vl1, sz1, su1, ls1, wh1, hg1, tn1, pd1, co1, st1⟩ := u1
    dsimp only
    rw [fo_cl hn]
    refine ⟨fo_in hn, ?_⟩
    have A1' : sz1 n = nI (L1 n).length := A1
    unfold wpY_depth
    dsimp only
    refine fo_yN hn (br_t rfl ?_)
    have P := Y n hn
    cases hw : W n with
    | nil =>
      rw [hw] at P
      exact absurd P (fo_m1 hn)
    | cons m l =>
      rw [hw] at P l1
      have e := fo_ij hn P.2.1 P.1
      subst e
      rw [List.length_cons] at l1
      refine ⟨l.length + 1, fo_yd l n 0 _ P (Nat.lt_succ_self _) ⟨?_, L1, W, J1, Y⟩⟩
      rw [A1', ← l1, nI_pred, Nat.zero_add]
theorem i_vc_sumUp {k : Nat} {u : SX} {v : SY} (I : i_Rel k u v) (hk : k + 3 ≤ 1536) (v1 : Int32) : wpX_sumUp (fun r u' => wpY_sumUp (fun r' => r' = r ∧ i_Rel (k + 3) u' v) v v1) u v1 := by
  obtain ⟨L, W, I, Y⟩ := I
  obtain ⟨va, pa⟩ := v
  rcases fo_nb v1 with hb | ⟨n, hn, e⟩
  · obtain ⟨lf, rt, ab, vl, sz, su, ls, wh, hg, tn, pd, co, st⟩ := u
    unfold wpX_sumUp
    dsimp only
    refine fo_isB hb (br_t rfl ?_)
    unfold wpY_sumUp
    dsimp only
    exact fo_yB hb (br_f fo_10 ⟨rfl, L, W, I, Y⟩)
  · subst e
    obtain ⟨lf, rt, ab, vl, sz, su, ls, wh, hg, tn, pd, co, st⟩ := u
    unfold wpX_sumUp
    dsimp only
    refine fo_isN hn (br_f fo_10 (fo_exs Y hn I fun r u1 L1 J1 E1 => ?_))
    have A1 := (fo_i_ag J1 hn).2.1
    have eW := fo_exp_W Y J1 hn E1
    have S1 := (fo_CS_sv _ _ (fo_i_cs J1 hn E1.1)).1
    obtain ⟨lf1, rt1, ab1, vl1, sz1, su1, ls1, wh1, hg1, tn1, pd1, co1, st1⟩ := u1
    dsimp only
    rw [fo_cl hn]
    refine ⟨fo_in hn, ?_⟩
    have A1' : su1 n = fo_sm (L1 n) := A1
    unfold wpY_sumUp
    dsimp only
    refine fo_yN hn (br_t rfl ⟨(W n).length + 1, fo_ys (W n) _ 0 _ (Y n hn) (Nat.lt_succ_self _) ⟨?_, L1, W, J1, Y⟩⟩)
    rw [A1', S1, eW, fo_sv_rev, Int32.zero_add]
theorem i_vc_leastUp {k : Nat} {u : SX} {v : SY} (I : i_Rel k u v) (hk : k + 3 ≤ 1536) (v1 : Int32) : wpX_leastUp (fun r u' => wpY_leastUp (fun r' => r' = r ∧ i_Rel (k + 3) u' v) v v1) u v1 := by
  obtain ⟨L, W, I, Y⟩ := I
  obtain ⟨va, pa⟩ := v
  rcases fo_nb v1 with hb | ⟨n, hn, e⟩
  · obtain ⟨lf, rt, ab, vl, sz, su, ls, wh, hg, tn, pd, co, st⟩ := u
    unfold wpX_leastUp
    dsimp only
    refine fo_isB hb (br_t rfl ?_)
    unfold wpY_leastUp
    dsimp only
    exact fo_yB hb (br_f fo_10 ⟨rfl, L, W, I, Y⟩)
  · subst e
    obtain ⟨lf, rt, ab, vl, sz, su, ls, wh, hg, tn, pd, co, st⟩ := u
    unfold wpX_leastUp
    dsimp only
    refine fo_isN hn (br_f fo_10 (fo_exs Y hn I fun r u1 L1 J1 E1 => ?_))
    have A1 := (fo_i_ag J1 hn).2.2.1
    have eW := fo_exp_W Y J1 hn E1
    have S1 := (fo_CS_sv _ _ (fo_i_cs J1 hn E1.1)).2
    obtain ⟨lf1, rt1, ab1, vl1, sz1, su1, ls1, wh1, hg1, tn1, pd1, co1, st1⟩ := u1
    dsimp only
    rw [fo_cl hn]
    refine ⟨fo_in hn, ?_⟩
    have A1' : ls1 n = fo_mn (L1 n) := A1
    have A2 : ls1 n = fo_mv va (W n) := by rw [A1', S1, eW, fo_mv_rev]
    unfold wpY_leastUp
    dsimp only
    rw [fo_cl hn]
    refine fo_yN hn (br_t rfl ⟨fo_in hn, fun x2 e2 => ⟨fo_in hn, fun x3 e3 => ?_⟩⟩)
    subst e2 e3
    have P := Y n hn
    cases hw : W n with
    | nil =>
      rw [hw] at P
      exact absurd P (fo_m1 hn)
    | cons m l =>
      rw [hw] at P A2
      have e := fo_ij hn P.2.1 P.1
      subst e
      exact ⟨l.length + 1, fo_yl l _ _ _ P.2.2 (Nat.lt_succ_self _) ⟨A2.symm, L1, W, J1, Y⟩⟩
theorem i_vc_sumPart {k : Nat} {u : SX} {v : SY} (I : i_Rel k u v) (hk : k + 3 ≤ 1536) (v1 : Int32) : wpX_sumPart (fun r u' => wpY_sumPart (fun r' => r' = r ∧ i_Rel (k + 3) u' v) v v1) u v1 := by
  obtain ⟨L, W, I, Y⟩ := I
  obtain ⟨va, pa⟩ := v
  rcases fo_nb v1 with hb | ⟨n, hn, e⟩
  · obtain ⟨lf, rt, ab, vl, sz, su, ls, wh, hg, tn, pd, co, st⟩ := u
    unfold wpX_sumPart
    dsimp only
    refine fo_isB hb (br_t rfl ?_)
    unfold wpY_sumPart
    dsimp only
    exact fo_yB hb (br_f fo_10 ⟨rfl, L, W, I, Y⟩)
  · subst e
    obtain ⟨lf, rt, ab, vl, sz, su, ls, wh, hg, tn, pd, co, st⟩ := u
    unfold wpX_sumPart
    dsimp only
    refine fo_isN hn (br_f fo_10 (fo_exs Y hn I fun r u1 L1 J1 E1 => ?_))
    obtain ⟨eL, C⟩ := fo_exp_L J1 hn E1
    obtain ⟨CA, c1, c2, c3, _⟩ := (fo_CS_app _ _ _).mp C
    obtain ⟨lf1, rt1, ab1, vl1, sz1, su1, ls1, wh1, hg1, tn1, pd1, co1, st1⟩ := u1
    dsimp only
    rw [fo_cl hn]
    have c3' : hg1 n + vl1 n + 0 = fo_sb W va n := c3
    refine ⟨fo_in hn, fo_in hn, ?_⟩
    unfold wpY_sumPart
    dsimp only
    refine fo_yN hn (br_t rfl ⟨25, fo_yp Y hn ⟨?_, L1, W, J1, Y⟩ 24 0 rfl⟩)
    rw [← c3', Int32.add_zero, Int32.add_comm]
end
section
/-! values, turning, cutting -/
theorem fo_kids {pa va sb : Nat → Int32} {lf rt ab vl sz su ls wh hg tn pd co st : Nat → Int32} {L : Nat → List (Nat × Int32)} {n : Nat} {x : Int32} (I : fo_INV (lf, rt, ab, vl, sz, su, ls, wh, hg, tn, pd, co, st) L pa va sb) (hn : n < 24) (h : x = lf n ∨ x = rt n) : x = -1 ∨ ∃ c, c < 24 ∧ c ≠ n ∧ x = nI c ∧ fo_AG (sz c) (su c) (ls c) (wh c) hg (L c) := by
  have px : fo_px x := by
    rcases h with e | e
    · rw [e]; exact fo_i_lf I hn
    · rw [e]; exact fo_i_rt I hn
  rcases px with e | ⟨c, hc, e⟩
  · exact Or.inl e
  · have hch : fo_ch (lf, rt, ab, vl, sz, su, ls, wh, hg, tn, pd, co, st) n c := by
      rcases h with a | a
      · exact Or.inl (a.symm.trans e)
      · exact Or.inr (a.symm.trans e)
    exact Or.inr ⟨c, hc, fo_i_chne I hn hc hch, e, fo_i_ag I hc⟩
theorem i_vc_set {k : Nat} {u : SX} {v : SY} (I : i_Rel k u v) (hk : k + 3 ≤ 1536) (v1 : Int32) (v2 : Int32) : wpX_set (fun r u' => wpY_set (fun r' v' => r' = r ∧ i_Rel (k + 3) u' v') v v1 v2) u v1 v2 := by
  obtain ⟨L, W, I, Y⟩ := I
  obtain ⟨va, pa⟩ := v
  rcases fo_nb v1 with hb | ⟨n, hn, e⟩
  · obtain ⟨lf, rt, ab, vl, sz, su, ls, wh, hg, tn, pd, co, st⟩ := u
    unfold wpX_set
    dsimp only
    refine fo_isB hb (br_t rfl ?_)
    unfold wpY_set
    dsimp only
    exact fo_yB hb (br_f fo_10 ⟨rfl, L, W, I, Y⟩)
  · subst e
    obtain ⟨lf, rt, ab, vl, sz, su, ls, wh, hg, tn, pd, co, st⟩ := u
    unfold wpX_set
    dsimp only
    refine fo_isN hn (br_f fo_10 (fo_exs Y hn I fun r u1 L1 J1 E1 => ?_))
    obtain ⟨eL, C⟩ := fo_exp_L J1 hn E1
    obtain ⟨CA, c1, c2, c3, _⟩ := (fo_CS_app _ _ _).mp C
    obtain ⟨lf1, rt1, ab1, vl1, sz1, su1, ls1, wh1, hg1, tn1, pd1, co1, st1⟩ := u1
    have c2' : vl1 n = va n := c2
    dsimp only
    rw [fo_cl hn]
    refine ⟨fo_in hn, fun x3 e3 => ⟨fo_in hn, fun vl2 e2 => ?_⟩⟩
    refine fo_ga (L := L1) hn (fo_kids J1 hn (Or.inl rfl)) (fo_kids J1 hn (Or.inr rfl)) fun sz' su' ls' wh' s1 a1 => ?_
    dsimp only
    have vn : vl2 n = v2 := by rw [e2, fo_us]
    rw [vn] at a1
    have J2 := fo_set_law (u' := (lf1, rt1, ab1, vl2, sz', su', ls', wh', hg1, tn1, pd1, co1, st1)) Y J1 hn E1 rfl rfl rfl e2 rfl rfl rfl rfl s1 a1
    unfold wpY_set
    dsimp only
    rw [fo_cl hn]
    refine fo_yN hn (br_t rfl ⟨fo_in hn, fun y3 f3 => ⟨fo_in hn, fun va2 f2 => ?_⟩⟩)
    subst f2
    exact ⟨by rw [f3, e3, c2'], _, W, J2, Y⟩
theorem i_vc_paint {k : Nat} {u : SX} {v : SY} (I : i_Rel k u v) (hk : k + 3 ≤ 1536) (v1 : Int32) (v2 : Int32) : wpX_paint (fun r u' => wpY_paint (fun r' v' => r' = r ∧ i_Rel (k + 3) u' v') v v1 v2) u v1 v2 := by
  obtain ⟨L, W, I, Y⟩ := I
  obtain ⟨va, pa⟩ := v
  rcases fo_nb v1 with hb | ⟨n, hn, e⟩
  · obtain ⟨lf, rt, ab, vl, sz, su, ls, wh, hg, tn, pd, co, st⟩ := u
    unfold wpX_paint
    dsimp only
    refine fo_isB hb (br_t rfl ?_)
    unfold wpY_paint
    dsimp only
    exact fo_yB hb (br_f fo_10 ⟨rfl, L, W, I, Y⟩)
  · subst e
    obtain ⟨lf, rt, ab, vl, sz, su, ls, wh, hg, tn, pd, co, st⟩ := u
    unfold wpX_paint
    dsimp only
    refine fo_isN hn (br_f fo_10 (fo_exs Y hn I fun r u1 L1 J1 E1 => ?_))
    have A1 := (fo_i_ag J1 hn).1
    have l1 := fo_len_W Y J1 hn E1
    obtain ⟨lf1, rt1, ab1, vl1, sz1, su1, ls1, wh1, hg1, tn1, pd1, co1, st1⟩ := u1
    have A1' : sz1 n = nI (L1 n).length := A1
    dsimp only
    refine fo_pp (l := L1 n) v2 hn (fo_i_ne J1 hn) (fo_i_ag J1 hn) fun vl' su' ls' wh' pd' co' hs k1 k2 k3 ag => ?_
    dsimp only
    rw [fo_cl hn]
    refine ⟨fo_in hn, ?_⟩
    obtain ⟨va', hv, J2⟩ := fo_paint_law (u' := (lf1, rt1, ab1, vl', sz1, su', ls', wh', hg1, tn1, pd', co', st1)) Y J1 hn E1 rfl rfl rfl rfl rfl rfl hs k1 k2 k3 ag
    unfold wpY_paint
    dsimp only
    refine fo_yN hn (br_t rfl ⟨(W n).length + 1, fo_yc (W n) va _ 0 _ (Y n hn) (Nat.lt_succ_self _) fun va2 hv2 => ⟨?_, ?_⟩⟩)
    · rw [A1', l1, Nat.zero_add]
    · have e : va2 = va' := by
        funext z
        rw [hv2 z, hv z]
      rw [e]
      exact ⟨_, W, J2, Y⟩
theorem i_vc_turn {k : Nat} {u : SX} {v : SY} (I : i_Rel k u v) (hk : k + 3 ≤ 1536) (v1 : Int32) : wpX_turn (fun r u' => wpY_turn (fun r' v' => r' = r ∧ i_Rel (k + 3) u' v') v v1) u v1 := by
  obtain ⟨L, W, I, Y⟩ := I
  obtain ⟨va, pa⟩ := v
  rcases fo_nb v1 with hb | ⟨n, hn, e⟩
  · obtain ⟨lf, rt, ab, vl, sz, su, ls, wh, hg, tn, pd, co, st⟩ := u
    unfold wpX_turn
    dsimp only
    refine fo_isB hb (br_t rfl ?_)
    unfold wpY_turn
    dsimp only
    exact fo_yB hb (br_f fo_10 ⟨rfl, L, W, I, Y⟩)
  · subst e
    obtain ⟨lf, rt, ab, vl, sz, su, ls, wh, hg, tn, pd, co, st⟩ := u
    unfold wpX_turn
    dsimp only
    refine fo_isN hn (br_f fo_10 (fo_root Y hn I fun a u0 L0 ha ma ra J0 => ?_))
    obtain ⟨lf0, rt0, ab0, vl0, sz0, su0, ls0, wh0, hg0, tn0, pd0, co0, st0⟩ := u0
    dsimp only
    refine fo_exs Y hn J0 fun r u1 L1 J1 E1 => ?_
    have k0 := E1.2.1.1
    obtain ⟨lf1, rt1, ab1, vl1, sz1, su1, ls1, wh1, hg1, tn1, pd1, co1, st1⟩ := u1
    have k0' : tn1 n = 0 := k0
    dsimp only
    rw [fo_cl hn]
    refine ⟨fo_in hn, br_t k0' ⟨fo_in hn, fun tn2 e2 => ?_⟩⟩
    obtain ⟨W', Y', J2⟩ := fo_turn_law (u' := (lf1, rt1, ab1, vl1, sz1, su1, ls1, wh1, hg1, tn2, pd1, co1, st1)) Y J1 hn E1 rfl rfl rfl rfl rfl rfl rfl rfl rfl rfl rfl (fun m ne => by show tn2 m = tn1 m; rw [e2, fo_un ne]) (by show ¬ tn2 n = 0; rw [e2, fo_us]; exact fo_10)
    unfold wpY_turn
    dsimp only
    refine fo_yN hn (br_t rfl ⟨(W n).length + 1, fo_yt (W n) pa _ (-1) _ (Y n hn) (fo_PT_nd Y _ _ (Y n hn)) (Nat.lt_succ_self _) ⟨?_, _, W', J2, Y'⟩⟩)
    exact fo_lt_root Y (W n) _ (-1) a (Y n hn) ma ra
theorem fo_la_in (l : List (Nat × Int32)) : ∀ a : Int32, l ≠ [] → ∃ z, z ∈ fo_ns l ∧ fo_la a l = nI z := by
  induction l with
  | nil => exact fun _ h => absurd rfl h
  | cons q l ih =>
    intro a _
    cases l with
    | nil => exact ⟨q.1, fo_mem_cons.mpr (Or.inl rfl), rfl⟩
    | cons r l =>
      obtain ⟨z, hz, e⟩ := ih (nI q.1) (by simp)
      exact ⟨z, fo_mem_cons.mpr (Or.inr hz), e⟩
/-- an exposed node has a left child just if it has a parent -/
theorem fo_exp_pa {pa va sb : Nat → Int32} {u : SX} {L : Nat → List (Nat × Int32)} {n : Nat} (I : fo_INV u L pa va sb) (hn : n < 24) (E : fo_EXP u n) : (fo_lf u n = -1 ∧ pa n = -1) ∨ ∃ l p, l < 24 ∧ p < 24 ∧ fo_lf u n = nI l ∧ pa n = nI p := by
  obtain ⟨eL, C⟩ := fo_exp_L I hn E
  obtain ⟨CA, c1, _⟩ := (fo_CS_app _ _ _).mp C
  have c1' : pa n = fo_la (-1) (fo_LO L (fo_lf u n)) := c1
  rcases fo_i_lf I hn with e | ⟨l, hl, e⟩
  · rw [e, fo_LO_n] at c1'
    exact Or.inl ⟨e, c1'⟩
  · rw [e, fo_LO_s _ hl] at c1'
    obtain ⟨z, hz, ez⟩ := fo_la_in (L l) (-1) (fo_i_ne I hl)
    exact Or.inr ⟨l, z, hl, fo_i_lt I hl hz, e, c1'.trans ez⟩
theorem i_vc_cut {k : Nat} {u : SX} {v : SY} (I : i_Rel k u v) (hk : k + 3 ≤ 1536) (v1 : Int32) : wpX_cut (fun r u' => wpY_cut (fun r' v' => r' = r ∧ i_Rel (k + 3) u' v') v v1) u v1 := by
  obtain ⟨L, W, I, Y⟩ := I
  obtain ⟨va, pa⟩ := v
  rcases fo_nb v1 with hb | ⟨n, hn, e⟩
  · obtain ⟨lf, rt, ab, vl, sz, su, ls, wh, hg, tn, pd, co, st⟩ := u
    unfold wpX_cut
    dsimp only
    unfold wpX_parent
    dsimp only
    refine fo_isB hb (br_t rfl (br_f fo_ngz ?_))
    unfold wpY_cut
    dsimp only
    exact fo_yB hb (br_f fo_10 ⟨rfl, L, W, I, Y⟩)
  · subst e
    obtain ⟨lf, rt, ab, vl, sz, su, ls, wh, hg, tn, pd, co, st⟩ := u
    unfold wpX_cut
    dsimp only
    refine fo_par Y hn I fun u0 L0 J0 => ?_
    obtain ⟨lf0, rt0, ab0, vl0, sz0, su0, ls0, wh0, hg0, tn0, pd0, co0, st0⟩ := u0
    dsimp only
    rcases fo_W_pa Y hn with ⟨ep, _⟩ | ⟨p, hp, ep, _⟩
    · have ep' : pa n = -1 := ep
      refine br_f (by rw [ep']; exact fo_ngz) ?_
      unfold wpY_cut
      dsimp only
      rw [fo_cl hn]
      refine fo_yN hn (br_t rfl ⟨fo_in hn, fun x2 e2 => ⟨fo_in hn, fun pa2 f2 => ?_⟩⟩)
      have e3 : pa2 = pa := by
        funext z
        rw [f2]
        by_cases q : z = n
        · rw [q, fo_us, ep']
        · rw [fo_un q]
      rw [e3]
      exact ⟨e2.trans ep', L0, W, J0, Y⟩
    · have ep' : pa n = nI p := ep
      refine br_t (by rw [ep']; exact fo_ge hp) ?_
      refine fo_exs Y hn J0 fun r u1 L1 J1 E1 => ?_
      have EP := fo_exp_pa J1 hn E1
      have er : fo_rt u1 n = -1 := E1.2.2.2
      obtain ⟨lf1, rt1, ab1, vl1, sz1, su1, ls1, wh1, hg1, tn1, pd1, co1, st1⟩ := u1
      rcases EP with ⟨_, z⟩ | ⟨l, _, hl, _, el, _⟩
      · exact absurd (ep'.symm.trans z) (fo_m1 hp)
      have el' : lf1 n = nI l := el
      have er' : rt1 n = -1 := er
      dsimp only
      rw [fo_cl hn, el', fo_cl hl]
      refine ⟨fo_in hn, fo_in hl, fun ab2 e2 => ⟨fo_in hn, fun lf2 e3 => ?_⟩⟩
      have g1 : lf2 n = -1 := by rw [e3, fo_us]
      refine fo_ga (L := L1) hn (Or.inl g1) (Or.inl er') fun sz' su' ls' wh' s1 a1 => ?_
      dsimp only
      rw [g1, er', fo_LO_n] at a1
      obtain ⟨W', Y', J2⟩ := fo_cut_law (u' := (lf2, rt1, ab2, vl1, sz', su', ls', wh', hg1, tn1, pd1, co1, st1)) Y J1 hn hp hl E1 ep' el e3 rfl e2 rfl rfl rfl rfl rfl s1 a1
      unfold wpY_cut
      dsimp only
      rw [fo_cl hn]
      refine fo_yN hn (br_t rfl ⟨fo_in hn, fun x2 f1 => ⟨fo_in hn, fun pa2 f2 => ?_⟩⟩)
      subst f2
      exact ⟨f1, _, W', J2, Y'⟩
end
section
/-! joining, and where two ways meet -/
section
variable {pa va sb : Nat → Int32} {W : Nat → List Nat}
theorem fo_roots (Y : fo_YI pa W) {n a c : Nat} (hn : n < 24) (ma : a ∈ W n) (mc : c ∈ W n) (ra : pa a = -1) (rc : pa c = -1) : a = c := by
  have ha := fo_W_lt Y hn ma
  have hc := fo_W_lt Y hn mc
  rcases fo_W_cmp Y hn ma mc with h | h
  · rw [fo_W_root Y hc rc] at h
    exact List.mem_singleton.mp h
  · rw [fo_W_root Y ha ra] at h
    exact (List.mem_singleton.mp h).symm
theorem fo_root_in (Y : fo_YI pa W) {n a y : Nat} (hn : n < 24) (ma : a ∈ W n) (ra : pa a = -1) (my : y ∈ W n) : a ∈ W y := by
  have ha := fo_W_lt Y hn ma
  rcases fo_W_cmp Y hn ma my with h | h
  · exact h
  · rw [fo_W_root Y ha ra] at h
    have e := List.mem_singleton.mp h
    rw [e]
    exact fo_W_self Y ha
/-- exposing another tree's node leaves a lone root alone -/
theorem fo_gs_link {c p : Nat} {w : Int32} (hc : c < 24) (hp : p < 24) (Y : fo_YI pa W) (nc : ¬ c ∈ W p) : fo_GS pa va sb W p (fun u L l _ => fo_top u c ∧ L c = [(c, w)] ∧ fo_ab u c = -1 ∧ l ≠ nI c) := by
  intro u L u1 L1 u2 L2 l x hx mx I I1 I2 F t1 k1 _ E ⟨g1, g2, g3, g4⟩
  have xc : x ≠ c := fun e => nc (by rw [← e]; exact mx)
  have xn : ¬ x ∈ fo_ns (L c) := by
    rw [g2]
    intro z
    rcases fo_mem_cons.mp z with z | z
    · exact xc z
    · exact fo_mem_nil z
  obtain ⟨t, ht, f1, f2, f3, f4⟩ := F c hc g1
  have e := f4 xn
  subst e
  refine ⟨E.2.2.2.2 t hc f1 g4, ?_, ?_, fun z => xc (fo_ij hx hc z)⟩
  · rw [E.2.2.2.1 t (Ne.symm xc), f2, g2]
  · rw [E.2.1, f3, g3]
end
theorem i_vc_link {k : Nat} {u : SX} {v : SY} (I : i_Rel k u v) (hk : k + 3 ≤ 1536) (v1 : Int32) (v2 : Int32) : wpX_link (fun r u' => wpY_link (fun r' v' => r' = r ∧ i_Rel (k + 3) u' v') v v1 v2) u v1 v2 := by
  obtain ⟨L, W, I, Y⟩ := I
  obtain ⟨va, pa⟩ := v
  obtain ⟨lf, rt, ab, vl, sz, su, ls, wh, hg, tn, pd, co, st⟩ := u
  unfold wpX_link
  dsimp only
  rcases fo_nb v1 with hb | ⟨c, hc, e⟩
  · refine fo_isB hb (br_t rfl ?_)
    unfold wpY_link
    dsimp only
    exact fo_yB hb (br_f fo_10 ⟨rfl, L, W, I, Y⟩)
  · subst e
    refine fo_isN hc (br_f fo_10 ?_)
    rcases fo_nb v2 with hb | ⟨p, hp, e⟩
    · refine fo_isB hb (br_t rfl ?_)
      unfold wpY_link
      dsimp only
      exact fo_yN hc (br_t rfl (fo_yB hb (br_f fo_10 ⟨rfl, L, W, I, Y⟩)))
    · subst e
      refine fo_isN hp (br_f fo_10 ?_)
      refine fo_root Y hp I fun a u0 L0 ha ma ra J0 => ?_
      obtain ⟨lf0, rt0, ab0, vl0, sz0, su0, ls0, wh0, hg0, tn0, pd0, co0, st0⟩ := u0
      dsimp only
      refine fo_exs Y hc J0 fun r u1 L1 J1 E1 => ?_
      have EP := fo_exp_pa J1 hc E1
      have EL := (fo_exp_L J1 hc E1).1
      have tc := E1.1
      have ac := E1.2.2.1
      obtain ⟨lf1, rt1, ab1, vl1, sz1, su1, ls1, wh1, hg1, tn1, pd1, co1, st1⟩ := u1
      dsimp only
      rw [fo_cl hc]
      refine ⟨fo_in hc, ?_⟩
      rcases EP with ⟨el, epa⟩ | ⟨l, q, hl, hq, el, epa⟩
      · have el' : lf1 c = -1 := el
        have epa' : pa c = -1 := epa
        refine br_f (by rw [el']; exact fo_ngz) ?_
        by_cases eac : a = c
        · refine br_t (by rw [eac]) ?_
          unfold wpY_link
          dsimp only
          rw [fo_cl hc]
          refine fo_yN hc (br_t rfl (fo_yN hp (br_t rfl ⟨fo_in hc, br_f (by rw [epa']; exact fo_ngz) (fo_yroot Y hp ra ma (br_t (by rw [eac]) ⟨rfl, L1, W, J1, Y⟩))⟩)))
        · have nc : ¬ c ∈ W p := fun z => eac (fo_roots Y hp ma z ra epa')
          refine br_f (fo_ne ha hc eac) ?_
          have eLc : L1 c = [(c, vl1 c)] := by
            have EL' : L1 c = fo_LO L1 (lf1 c) ++ [(c, vl1 c)] := EL
            rw [el', fo_LO_n] at EL'
            exact EL'
          have cp : p ≠ c := fun e => nc (by rw [← e]; exact fo_W_self Y hp)
          refine fo_ex Y hp J1 (fo_gs_link (w := vl1 c) hc hp Y nc) ⟨tc, eLc, ac, fun z => fo_m1 hc z.symm⟩ ?_
          intro t u2 L2 u3 L3 ht J2 _ _ _ ⟨g1, g2, g3, g4⟩ F J3 E3
          obtain ⟨s, hs, f1, f2, f3, f4⟩ := F c hc g1
          have es := f4 (by
            rw [g2]
            intro z
            rcases fo_mem_cons.mp z with z | z
            · exact cp z
            · exact fo_mem_nil z)
          subst es
          obtain ⟨lf3, rt3, ab3, vl3, sz3, su3, ls3, wh3, hg3, tn3, pd3, co3, st3⟩ := u3
          have f3' := f3.trans g3
          have f2' := f2.trans g2
          dsimp only
          rw [fo_cl hp]
          refine ⟨fo_in hs, fun ab4 e4 => ⟨fo_in hp, fo_in hs, fo_in hp, fun hg4 e5 => ?_⟩⟩
          have npk : ∀ x : Int32, (x = lf3 p ∨ x = rt3 p) → x = -1 ∨ ∃ d, d < 24 ∧ d ≠ p ∧ x = nI d ∧ fo_AG (sz3 d) (su3 d) (ls3 d) (wh3 d) hg4 (L3 d) := by
            intro x hx
            rcases fo_kids J3 hp hx with z | ⟨d, hd, dp, ed, AG⟩
            · exact Or.inl z
            · refine Or.inr ⟨d, hd, dp, ed, fo_AG_hg (fun y hy => ?_) AG⟩
              rw [e5, fo_un]
              intro yp
              rw [yp] at hy
              exact dp (fo_i_ntop J3 hd hy E3.1).symm
          refine fo_ga (L := L3) hp (npk _ (Or.inl rfl)) (npk _ (Or.inr rfl)) fun sz' su' ls' wh' s1 a1 => ?_
          dsimp only
          obtain ⟨W', Y', J4⟩ := fo_link_law (u' := (lf3, rt3, ab4, vl3, sz', su', ls', wh', hg4, tn3, pd3, co3, st3)) Y J3 hs hp E3 f1 f3' f2' nc rfl rfl e4 rfl rfl rfl rfl e5 s1 a1
          unfold wpY_link
          dsimp only
          rw [fo_cl hs]
          refine fo_yN hs (br_t rfl (fo_yN hp (br_t rfl ⟨fo_in hs, br_f (by rw [epa']; exact fo_ngz) (fo_yroot Y hp ra ma (br_f (fo_ne ha hs eac) ⟨fo_in hs, fun pa2 h2 => ?_⟩))⟩)))
          subst h2
          exact ⟨rfl, _, W', J4, Y'⟩
      · have el' : lf1 c = nI l := el
        have epa' : pa c = nI q := epa
        refine br_t (by rw [el']; exact fo_ge hl) ?_
        unfold wpY_link
        dsimp only
        rw [fo_cl hc]
        exact fo_yN hc (br_t rfl (fo_yN hp (br_t rfl ⟨fo_in hc, br_t (by rw [epa']; exact fo_ge hq) ⟨rfl, L1, W, J1, Y⟩⟩)))
end
section
/-! where two ways meet -/
section
variable {pa va sb : Nat → Int32} {W : Nat → List Nat}
/-- a's way is the piece l0 until b's way joins it -/
def fo_GM (W : Nat → List Nat) (a b : Nat) (l0 : List Nat) (u : SX) (L : Nat → List (Nat × Int32)) (l y : Int32) : Prop :=
  (fo_top u a ∧ fo_ns (L a) = l0 ∧ fo_ab u a = -1 ∧ l ≠ nI a ∧ ∀ z, z ∈ W b → ¬ z ∈ l0 ∨ ∃ x, x < 24 ∧ y = nI x ∧ z ∈ W x) ∨
  (y = -1 ∧ ∃ w, w < 24 ∧ l = nI w ∧ w ∈ l0 ∧ ∀ z, z ∈ W b → ¬ z ∈ l0 ∨ z ∈ W w)
theorem fo_gs_meet {a b : Nat} {l0 : List Nat} (ha : a < 24) (Y : fo_YI pa W) : fo_GS pa va sb W b (fo_GM W a b l0) := by
  intro u L u1 L1 u2 L2 l x hx mx I I1 I2 F t1 k1 _ E G
  rcases G with ⟨g1, g2, g3, g4, g5⟩ | ⟨g1, _⟩
  · have g5' : ∀ z, z ∈ W b → ¬ z ∈ l0 ∨ z ∈ W x := by
      intro z hz
      rcases g5 z hz with h | ⟨x', hx', e, h⟩
      · exact Or.inl h
      · have := fo_ij hx hx' e
        subst this
        exact Or.inr h
    obtain ⟨t, ht, f1, f2, f3, f4⟩ := F a ha g1
    by_cases xl : x ∈ l0
    · have mt : x ∈ fo_ns (L1 t) := by
        rw [f2, g2]
        exact xl
      have xt := fo_i_ntop I1 ht mt t1
      subst xt
      refine Or.inr ⟨?_, x, hx, rfl, xl, g5'⟩
      rw [E.2.1, f3, g3]
    · have e := f4 (by rw [g2]; exact xl)
      subst e
      have xa : t ≠ x := fun z => xl (by rw [← g2, ← z]; exact fo_i_self I ht)
      refine Or.inl ⟨E.2.2.2.2 t ht f1 g4, by rw [E.2.2.2.1 t xa, f2, g2], by rw [E.2.1, f3, g3], fun z => xa (fo_ij hx ht z).symm, fun z hz => ?_⟩
      rcases g5' z hz with h | h
      · exact Or.inl h
      · have C := fo_i_cs I2 hx E.1
        have lt2 : ∀ q, q ∈ fo_ns (L2 x) → q < 24 := fun q hq => fo_i_lt I2 hx hq
        have e2 : L2 x = (fo_LO L1 (fo_lf u1 x) ++ [(x, fo_vl u1 x)]) ++ fo_LO L1 l := by
          rw [E.2.2.1, List.append_assoc]
          rfl
        rw [e2] at C lt2
        have C2 := ((fo_CS_app _ _ _).mp C).1
        have lt3 : ∀ q, q ∈ fo_ns (fo_LO L1 (fo_lf u1 x) ++ [(x, fo_vl u1 x)]) → q < 24 := fun q hq => lt2 q (fo_mem_app.mpr (Or.inl hq))
        have inx : ∀ q, q ∈ fo_ns (fo_LO L1 (fo_lf u1 x) ++ [(x, fo_vl u1 x)]) → ¬ q ∈ l0 := by
          intro q hq ql
          have q1 : q ∈ fo_ns (L1 x) := by
            refine (fo_i_mem I1 hx q).mpr ?_
            rcases fo_mem_app.mp hq with w | w
            · exact Or.inl w
            · rcases fo_mem_cons.mp w with w | w
              · exact Or.inr (Or.inl w)
              · exact absurd w fo_mem_nil
          have q2 : q ∈ fo_ns (L1 t) := by
            rw [f2, g2]
            exact ql
          exact xa (fo_i_dis I1 ht hx f1 t1 q2 q1)
        rcases fo_i_ab I2 hx with e3 | ⟨y, hy, e3⟩
        · rw [e3] at C2
          have w := fo_CS_Wb Y hx _ _ C2 lt3 (w := []) rfl
          rw [w, List.append_nil, List.mem_reverse] at h
          exact Or.inl (inx z h)
        · rw [e3] at C2
          have w := fo_CS_Wb Y hx _ _ C2 lt3 (Y y hy)
          rw [w, List.mem_append, List.mem_reverse] at h
          rcases h with h | h
          · exact Or.inl (inx z h)
          · exact Or.inr ⟨y, hy, e3, h⟩
  · exact absurd g1 (fo_m1 hx)
end
theorem i_vc_meet {k : Nat} {u : SX} {v : SY} (I : i_Rel k u v) (hk : k + 3 ≤ 1536) (v1 : Int32) (v2 : Int32) : wpX_meet (fun r u' => wpY_meet (fun r' => r' = r ∧ i_Rel (k + 3) u' v) v v1 v2) u v1 v2 := by
  obtain ⟨L, W, I, Y⟩ := I
  obtain ⟨va, pa⟩ := v
  obtain ⟨lf, rt, ab, vl, sz, su, ls, wh, hg, tn, pd, co, st⟩ := u
  unfold wpX_meet
  dsimp only
  rcases fo_nb v1 with hb | ⟨a, ha, e⟩
  · refine fo_isB hb (br_t rfl ?_)
    unfold wpY_meet
    dsimp only
    exact fo_yB hb (br_f fo_10 ⟨rfl, L, W, I, Y⟩)
  · subst e
    refine fo_isN ha (br_f fo_10 ?_)
    rcases fo_nb v2 with hb | ⟨b, hb, e⟩
    · refine fo_isB hb (br_t rfl ?_)
      unfold wpY_meet
      dsimp only
      exact fo_yN ha (br_t rfl (fo_yB hb (br_f fo_10 ⟨rfl, L, W, I, Y⟩)))
    · subst e
      refine fo_isN hb (br_f fo_10 ?_)
      refine fo_root Y ha I fun ra u0 L0 hra mra rra J0 => ?_
      obtain ⟨lf0, rt0, ab0, vl0, sz0, su0, ls0, wh0, hg0, tn0, pd0, co0, st0⟩ := u0
      dsimp only
      refine fo_root Y hb J0 fun rb u1 L1 hrb mrb rrb J1 => ?_
      obtain ⟨lf1, rt1, ab1, vl1, sz1, su1, ls1, wh1, hg1, tn1, pd1, co1, st1⟩ := u1
      dsimp only
      by_cases e : ra = rb
      · subst e
        refine br_t rfl ?_
        refine fo_exs Y ha J1 fun r u2 L2 J2 E2 => ?_
        have mem := fo_exp_mem Y J2 ha E2
        obtain ⟨lf2, rt2, ab2, vl2, sz2, su2, ls2, wh2, hg2, tn2, pd2, co2, st2⟩ := u2
        dsimp only
        refine fo_ex Y hb J2 (fo_gs_meet (l0 := fo_ns (L2 a)) ha Y) (Or.inl ⟨E2.1, rfl, E2.2.2.1, fun z => fo_m1 ha z.symm, fun z hz => Or.inr ⟨b, hb, rfl, hz⟩⟩) ?_
        intro t u3 L3 u4 L4 ht J3 t3 a3 hp G F J4 E4
        obtain ⟨pre, v, hp⟩ := hp
        have C := fo_i_cs J3 ht t3
        have lt3 : ∀ q, q ∈ fo_ns (L3 t) → q < 24 := fun q hq => fo_i_lt J3 ht hq
        rw [a3, hp] at C
        rw [hp] at lt3
        have Wb := fo_CS_W Y _ _ _ C lt3
        rw [← hp] at Wb
        obtain ⟨lf4, rt4, ab4, vl4, sz4, su4, ls4, wh4, hg4, tn4, pd4, co4, st4⟩ := u4
        dsimp only
        unfold wpY_meet
        dsimp only
        rcases G with ⟨g1, g2, g3, g4, _⟩ | ⟨_, w, hw, g1, g2, g3⟩
        · exfalso
          have m1 : ra ∈ fo_ns (L3 a) := by
            rw [g2]
            exact (mem ra).mp mra
          have m2 : ra ∈ fo_ns (L3 t) := by
            rw [Wb] at mrb
            exact List.mem_reverse.mp mrb
          exact g4 (by rw [fo_i_dis J3 ht ha t3 g1 m2 m1])
        · have tw := fo_ij ht hw g1
          subst tw
          have tb : t ∈ W b := by
            rw [Wb]
            exact List.mem_reverse.mpr (fo_i_self J3 ht)
          have tA : t ∈ W a := (mem t).mpr g2
          refine fo_yN ha (br_t rfl (fo_yN hb (br_t rfl ⟨(W a).length + 1, fo_ym Y hb (W a) _ _ (Y a ha) (Nat.lt_succ_self _) (fun pre w e hw mw hpre => ⟨?_, L4, W, J4, Y⟩) (fun h => absurd tb (h t tA))⟩)))
          have wa : w ∈ W a := by
            rw [e]
            exact List.mem_append_right _ (fo_W_self Y hw)
          have wt : w ∈ W t := by
            rcases g3 w mw with z | z
            · exact absurd ((mem w).mp wa) z
            · exact z
          have tw : t ∈ W w := by
            rw [e] at tA
            rcases List.mem_append.mp tA with z | z
            · exact absurd tb (hpre t z)
            · exact z
          rw [fo_W_anti Y ht wt tw]
      · refine br_f (fo_ne hra hrb e) ?_
        unfold wpY_meet
        dsimp only
        refine fo_yN ha (br_t rfl (fo_yN hb (br_t rfl ⟨(W a).length + 1, fo_ym Y hb (W a) _ _ (Y a ha) (Nat.lt_succ_self _) (fun pre w ew hw mw hpre => ?_) (fun h => ⟨rfl, L1, W, J1, Y⟩)⟩)))
        exfalso
        have wa : w ∈ W a := by
          rw [ew]
          exact List.mem_append_right _ (fo_W_self Y hw)
        have r1 := fo_root_in Y ha mra rra wa
        exact e (fo_roots Y hb (fo_W_tr Y hb mw r1) mrb rra rrb)
end
