section
/-- what is entered in group j in state ld: the person P in the group G, from state 1 on -/
def rt_E (P G ld j : Nat) : Int32 := if ld = 1 ∧ j = G then (1 : Int32) <<< (nI P &&& 31) else 0
/-- the sources of group j, once they are known: itself alone, and the mark -/
def rt_S (j : Nat) : Int32 := ((1 : Int32) <<< (nI j &&& 31)) ||| 262144
/-- the picture: m changes noted (none, or the one that entered P in G), state ld loaded, C compared -/
def rt_ok (m P G ld : Nat) (C : Nat → Int32) (u : St2) : Prop := match u with
  | (f0, f1, _, a1, a2, a3, a4, a5, a6, a7, a8, a9, _, a11) => f0 = nI ld ∧ f1 = nI m ∧ ld ≤ m ∧ m ≤ 1 ∧ P < 6 ∧ G < 18 ∧ (∀ j, j < 18 → a1 j = rt_E P G ld j) ∧ (∀ j, j < 18 → a2 j = 0) ∧ (∀ j, j < 3 → a3 j = 0) ∧ (m = 1 → a4 1 = 0 ∧ a5 1 = nI P ∧ a6 1 = nI G ∧ a7 1 = 0 ∧ a8 1 = 1) ∧ (∀ j, j < 18 → a9 j = 0 ∨ a9 j = rt_S j) ∧ a11 = C
/-- no person; no group; no state up to m -/
abbrev rt_bP (x : Int32) : Prop := x < 0 ∨ 5 < x
abbrev rt_bG (x : Int32) : Prop := x < 0 ∨ 17 < x
abbrev rt_bS (m : Nat) (x : Int32) : Prop := x < 0 ∨ nI m < x
theorem rt_bit : ∀ a, a < 18 → ∀ b, b < 18 → ((((1 : Int32) <<< (nI a &&& 31)) >>> (nI b &&& 31)) &&& 1) = (if b = a then 1 else 0) := by decide +kernel
theorem rt_z : ∀ b, b < 18 → (((0 : Int32) >>> (nI b &&& 31)) &&& 1) = 0 := by decide +kernel
theorem rt_k0 : (((0 : Int32) >>> ((18 : Int32) &&& 31)) &&& 1) = 0 := by decide +kernel
theorem rt_k1 : ∀ j, j < 18 → ¬ ((rt_S j >>> ((18 : Int32) &&& 31)) &&& 1) = 0 := by decide +kernel
theorem rt_low : ∀ j, j < 18 → rt_S j &&& 262143 = (1 : Int32) <<< (nI j &&& 31) := by decide +kernel
theorem rt_b8 : ∀ j, j < 18 → (nI j).toInt8.toInt32 = nI j := by decide +kernel
theorem rt_r3 : ∀ j, j < 18 → nI j - nI j / 3 * 3 = nI (j % 3) := by decide +kernel
theorem rt_sh0 : ∀ j, j < 18 → (0 : Int32) <<< (((nI j / 3) * 3) &&& 31) = 0 := by decide +kernel
theorem rt_clr : ∀ p, p < 6 → ((1 : Int32) <<< (nI p &&& 31)) &&& (((1 : Int32) <<< (nI p &&& 31)) ^^^ (-1)) = 0 := by decide +kernel
theorem rt_old : ∀ m, m < 2 → ∀ s, s < 2 → ¬ nI s ≤ nI m - 8 ∧ (nI m - 8) + 1 ≤ nI s := by decide +kernel
theorem rt_or0 (x : Int32) : x ||| 0 = x := by simp
theorem rt_0or (x : Int32) : 0 ||| x = x := by simp
theorem rt_0and (x : Int32) : 0 &&& x = 0 := by simp
theorem rt_xor0 (x : Int32) : x ^^^ 0 = x := by simp
theorem rt_18 {x : Int32} (h : 17 < x) : 18 ≤ x := by
  rw [Int32.lt_iff_toInt_lt] at h
  rw [Int32.le_iff_toInt_le]
  have e1 : (17 : Int32).toInt = 17 := by decide
  have e2 : (18 : Int32).toInt = 18 := by decide
  omega
theorem rt_n18 {x : Int32} (h : ¬ 17 < x) : ¬ 18 ≤ x := by
  rw [Int32.lt_iff_toInt_lt] at h
  rw [Int32.le_iff_toInt_le]
  have e1 : (17 : Int32).toInt = 17 := by decide
  have e2 : (18 : Int32).toInt = 18 := by decide
  omega
theorem rt_gP {x : Int32} (h : ¬ rt_bP x) : ∃ Q, Q < 6 ∧ x = nI Q := by
  obtain ⟨j, hj, e⟩ := nI_of2 (M := 5) (n := 5) (by decide) (fun z => h (Or.inl z)) (Int32.not_lt.mp (fun z => h (Or.inr z)))
  exact ⟨j, by omega, e⟩
theorem rt_gG {x : Int32} (h : ¬ rt_bG x) : ∃ K, K < 18 ∧ x = nI K := by
  obtain ⟨j, hj, e⟩ := nI_of2 (M := 17) (n := 17) (by decide) (fun z => h (Or.inl z)) (Int32.not_lt.mp (fun z => h (Or.inr z)))
  exact ⟨j, by omega, e⟩
theorem rt_gS {x : Int32} {m : Nat} (hm : m ≤ 1) (h : ¬ rt_bS m x) : ∃ S, S ≤ m ∧ x = nI S :=
  nI_of2 (M := nI m) (n := m) (nI_toInt (by omega)) (fun z => h (Or.inl z)) (Int32.not_lt.mp (fun z => h (Or.inr z)))
theorem rt_E0 {P G j : Nat} : rt_E P G 0 j = 0 := if_neg (fun z => absurd z.1 (by decide))
theorem rt_Eb {P G ld j q : Nat} (hP : P < 18) (hq : q < 18) : ((rt_E P G ld j >>> (nI q &&& 31)) &&& 1) = (if ld = 1 ∧ j = G ∧ q = P then 1 else 0) := by
  unfold rt_E
  by_cases c : ld = 1 ∧ j = G
  · rw [if_pos c, rt_bit P hP q hq]
    by_cases d : q = P
    · rw [if_pos d, if_pos ⟨c.1, c.2, d⟩]
    · rw [if_neg d, if_neg (fun z => d z.2.2)]
  · rw [if_neg c, rt_z q hq, if_neg (fun z => c ⟨z.1, z.2.1⟩)]
theorem rt_on {P G : Nat} {a : Nat → Int32} (h : ∀ j, j < 18 → a j = rt_E P G 0 j) (hG : G < 18) : ∀ j, j < 18 → upd a G (a G ||| ((1 : Int32) <<< (nI P &&& 31))) j = rt_E P G 1 j := by
  intro j hj
  by_cases e : j = G
  · rw [e, pk_us, h G hG, rt_E0, rt_0or]
    exact (if_pos ⟨rfl, rfl⟩).symm
  · rw [pk_un e, h j hj, rt_E0]
    exact (if_neg (fun z => e z.2)).symm
theorem rt_off {P G : Nat} {a : Nat → Int32} (h : ∀ j, j < 18 → a j = rt_E P G 1 j) (hG : G < 18) (hP : P < 6) : ∀ j, j < 18 → upd a G (a G &&& (((1 : Int32) <<< (nI P &&& 31)) ^^^ (-1))) j = rt_E P G 0 j := by
  intro j hj
  by_cases e : j = G
  · rw [e, pk_us, h G hG, rt_E0, show rt_E P G 1 G = (1 : Int32) <<< (nI P &&& 31) from if_pos ⟨rfl, rfl⟩]
    exact rt_clr P hP
  · rw [pk_un e, h j hj, rt_E0]
    exact if_neg (fun z => e z.2)
end
section
theorem rt_mk0 {post : St2 → Prop} {f0 f1 f2 : Int32} {a1 a2 a3 a4 a5 a6 a7 a8 a9 a10 a11 : Nat → Int32} {P G : Nat} (hG : G < 18) (h4 : a4 1 = 0) (h5 : a5 1 = nI P) (h6 : a6 1 = nI G)
    (H : post (f0, f1, f2, upd a1 G (a1 G &&& (((1 : Int32) <<< (nI P &&& 31)) ^^^ (-1))), a2, a3, a4, a5, a6, a7, a8, a9, a10, a11)) : wpX_make post (f0, f1, f2, a1, a2, a3, a4, a5, a6, a7, a8, a9, a10, a11) (nI 1) 0 := by
  unfold wpX_make
  dsimp only
  rw [nI_clamp (show 1 < 2 ^ 31 by omega), h4, h5, h6]
  refine ⟨pk_in 1 8 (by omega), nm_e ⟨pk_in 1 8 (by omega), nm_e ⟨pk_in 1 8 (by omega), nm_e ?_⟩⟩⟩
  refine br_t rfl (br_t rfl ⟨pk_in G 18 hG, pk_in G 18 hG, ?_⟩)
  rw [nI_clamp (show G < 2 ^ 31 by omega)]
  exact nm_e H
theorem rt_mk1 {post : St2 → Prop} {f0 f1 f2 : Int32} {a1 a2 a3 a4 a5 a6 a7 a8 a9 a10 a11 : Nat → Int32} {P G : Nat} (hG : G < 18) (h4 : a4 1 = 0) (h5 : a5 1 = nI P) (h6 : a6 1 = nI G)
    (H : post (f0, f1, f2, upd a1 G (a1 G ||| ((1 : Int32) <<< (nI P &&& 31))), a2, a3, a4, a5, a6, a7, a8, a9, a10, a11)) : wpX_make post (f0, f1, f2, a1, a2, a3, a4, a5, a6, a7, a8, a9, a10, a11) (nI 1) 1 := by
  unfold wpX_make
  dsimp only
  rw [nI_clamp (show 1 < 2 ^ 31 by omega), h4, h5, h6]
  refine ⟨pk_in 1 8 (by omega), nm_e ⟨pk_in 1 8 (by omega), nm_e ⟨pk_in 1 8 (by omega), nm_e ?_⟩⟩⟩
  refine br_t rfl (br_f (by decide) ⟨pk_in G 18 hG, pk_in G 18 hG, ?_⟩)
  rw [nI_clamp (show G < 2 ^ 31 by omega)]
  exact nm_e H
theorem rt_v0 : vp_nar .boolean 0 = 0 := by decide +kernel
theorem rt_v1 : vp_nar .boolean 1 = 1 := by decide +kernel
theorem rt_r8 : nI 1 - nI 1 / 8 * 8 = nI 1 := by decide +kernel
theorem rt_load {post : St2 → Prop} {m P G ld t : Nat} {C : Nat → Int32} {u : St2} (h : rt_ok m P G ld C u) (ht : t ≤ m) (H : ∀ u', rt_ok m P G t C u' → post u') : wpX_load post u (nI t) := by
  obtain ⟨f0, f1, f2, a1, a2, a3, a4, a5, a6, a7, a8, a9, a10, a11⟩ := u
  obtain ⟨rfl, rfl, hl, hm, hP, hG, h1, h2, h3, h4, h9, hC⟩ := h
  unfold wpX_load
  dsimp only
  by_cases e : ld = t
  · subst e
    exact ⟨1, pk_le ld ld (fun _ => ⟨1, pk_le ld ld (fun _ => H _ ⟨rfl, rfl, hl, hm, hP, hG, h1, h2, h3, h4, h9, hC⟩) (fun z => absurd z (by omega))⟩) (fun z => absurd z (by omega))⟩
  · have em : m = 1 := by omega
    obtain ⟨k4, k5, k6, k7, k8⟩ := h4 em
    rcases Nat.lt_or_gt_of_ne e with z | z
    · have e0 : ld = 0 := by omega
      have e1 : t = 1 := by omega
      subst e0
      subst e1
      refine ⟨1, pk_le 0 1 (fun _ => ⟨2, pk_le 1 0 (fun z => absurd z (by omega)) (fun _ => nm_r (nI_1 0) ⟨by decide, by decide, ?_, ?_⟩)⟩) (fun z => absurd z (by omega))⟩
      · exact pk_in 1 8 (by omega) rt_r8
      · rw [show nI (0 + 1) - nI (0 + 1) / 8 * 8 = nI 1 from rt_r8, nI_clamp (show 1 < 2 ^ 31 by omega), k8]
        refine rt_mk1 hG k4 k5 k6 ?_
        exact pk_le 1 1 (fun _ => H _ ⟨rfl, rfl, ht, hm, hP, hG, rt_on h1 hG, h2, h3, h4, h9, hC⟩) (fun z => absurd z (by omega))
    · have e0 : ld = 1 := by omega
      have e1 : t = 0 := by omega
      subst e0
      subst e1
      refine ⟨2, pk_le 1 0 (fun z => absurd z (by omega)) (fun _ => ⟨by decide, by decide, ?_, ?_⟩)⟩
      · exact pk_in 1 8 (by omega) rt_r8
      · rw [rt_r8, nI_clamp (show 1 < 2 ^ 31 by omega), k7]
        refine rt_mk0 hG k4 k5 k6 ?_
        exact nm_r (nI_pred 0) (pk_le 0 0 (fun _ => ⟨1, pk_le 0 0 (fun _ => H _ ⟨rfl, rfl, ht, hm, hP, hG, rt_off h1 hG hP, h2, h3, h4, h9, hC⟩) (fun z => absurd z (by omega))⟩) (fun z => absurd z (by omega)))
theorem rt_isP {post : Int32 → Prop} {u : St2} {x : Int32} (h0 : rt_bP x → post 0) (h1 : ¬ rt_bP x → post 1) : wpX_isPerson post u x := by
  obtain ⟨f0, f1, f2, a1, a2, a3, a4, a5, a6, a7, a8, a9, a10, a11⟩ := u
  exact br_c (fun c => h0 (Or.inl c)) (fun c => br_c (fun d => h0 (Or.inr d)) (fun d => h1 (fun z => z.elim c d)))
theorem rt_isG {post : Int32 → Prop} {u : St2} {x : Int32} (h0 : rt_bG x → post 0) (h1 : ¬ rt_bG x → post 1) : wpX_isGroup post u x := by
  obtain ⟨f0, f1, f2, a1, a2, a3, a4, a5, a6, a7, a8, a9, a10, a11⟩ := u
  refine br_c (fun c => h0 (Or.inl c)) (fun c => br_c (fun d => h0 (Or.inr ?_)) (fun d => h1 (fun z => z.elim c (fun w => d (rt_18 w)))))
  exact Decidable.byContradiction (fun w => rt_n18 w d)
theorem rt_isS {post : Int32 → Prop} {m P G ld : Nat} {C : Nat → Int32} {u : St2} {x : Int32} (h : rt_ok m P G ld C u) (h0 : rt_bS m x → post 0) (h1 : ¬ rt_bS m x → post 1) : wpX_isState post u x := by
  obtain ⟨f0, f1, f2, a1, a2, a3, a4, a5, a6, a7, a8, a9, a10, a11⟩ := u
  obtain ⟨rfl, rfl, _⟩ := h
  exact br_c (fun c => h0 (Or.inl c)) (fun c => br_c (fun d => h0 (Or.inr d)) (fun d => h1 (fun z => z.elim c d)))
theorem rt_okP {Q : Nat} (h : Q < 6) : ¬ rt_bP (nI Q) := fun z => z.elim (nI_pos (by omega)) (nI_nlt (b := Q) (a := 5) (by omega) (by omega))
theorem rt_okG {K : Nat} (h : K < 18) : ¬ rt_bG (nI K) := fun z => z.elim (nI_pos (by omega)) (nI_nlt (b := K) (a := 17) (by omega) (by omega))
theorem rt_okS {S m : Nat} (h : S ≤ m) (hm : m ≤ 1) : ¬ rt_bS m (nI S) := fun z => z.elim (nI_pos (by omega)) (nI_nlt (b := S) (a := m) (by omega) (by omega))
theorem rt_kept {post : Int32 → Prop} {m P G ld S : Nat} {C : Nat → Int32} {u : St2} (h : rt_ok m P G ld C u) (hS : S ≤ m) (h1 : post 1) : wpX_isKept post u (nI S) := by
  obtain ⟨f0, f1, f2, a1, a2, a3, a4, a5, a6, a7, a8, a9, a10, a11⟩ := u
  have h' := h
  obtain ⟨rfl, rfl, hl, hm, _⟩ := h
  unfold wpX_isKept
  dsimp only
  exact rt_isS h' (fun z => absurd z (rt_okS hS hm)) (fun _ => br_f (by decide) (br_f (rt_old m (by omega) S (by omega)).1 h1))
theorem rt_note {post : St2 → Prop} {P G : Nat} {C : Nat → Int32} {u : St2} (h : rt_ok 0 P G 0 C u) (H : ∀ u', u'.2.1 = 1 → rt_ok 1 P G 1 C u' → post u') : wpX_noteChange post u 0 (nI P) (nI G) 0 1 := by
  obtain ⟨f0, f1, f2, a1, a2, a3, a4, a5, a6, a7, a8, a9, a10, a11⟩ := u
  obtain ⟨rfl, rfl, hl, hm, hP, hG, h1, h2, h3, h4, h9, hC⟩ := h
  unfold wpX_noteChange
  dsimp only
  refine nm_r (nI_1 0) ⟨by decide, nm_r rt_r8 ?_⟩
  rw [nI_clamp (show 1 < 2 ^ 31 by omega), rt_b8 P (by omega), rt_b8 G hG, rt_v0, rt_v1]
  refine ⟨pk_in 1 8 (by omega), nm_e ⟨pk_in 1 8 (by omega), nm_e ⟨pk_in 1 8 (by omega), nm_e ⟨pk_in 1 8 (by omega), nm_e ⟨pk_in 1 8 (by omega), nm_e ?_⟩⟩⟩⟩⟩
  refine rt_mk1 (P := P) (G := G) hG pk_us pk_us pk_us ?_
  exact H _ rfl ⟨rfl, rfl, Nat.le_refl 1, Nat.le_refl 1, hP, hG, rt_on h1 hG, h2, h3, fun _ => ⟨show upd a4 1 0 1 = 0 from pk_us, show upd a5 1 (nI P) 1 = nI P from pk_us, show upd a6 1 (nI G) 1 = nI G from pk_us, show upd a7 1 0 1 = 0 from pk_us, show upd a8 1 1 1 = 1 from pk_us⟩, h9, hC⟩
theorem rt_enter {post : Int32 → St2 → Prop} {P G : Nat} {C : Nat → Int32} {u : St2} (h : rt_ok 0 P G 0 C u) (H : ∀ u', rt_ok 1 P G 1 C u' → post 1 u') : wpX_enter post u (nI P) (nI G) 1 := by
  obtain ⟨f0, f1, f2, a1, a2, a3, a4, a5, a6, a7, a8, a9, a10, a11⟩ := u
  have h' := h
  obtain ⟨rfl, rfl, hl, hm, hP, hG, _⟩ := h
  unfold wpX_enter
  dsimp only
  refine rt_isP (fun z => absurd z (rt_okP hP)) (fun _ => br_f (by decide) (rt_isG (fun z => absurd z (rt_okG hG)) (fun _ => br_f (by decide) (rt_load h' (Nat.le_refl 0) (fun u' hu => ?_)))))
  obtain ⟨g0, g1, g2, b1, b2, b3, b4, b5, b6, b7, b8, b9, b10, b11⟩ := u'
  have hu' := hu
  obtain ⟨_, _, _, _, _, _, k1, _⟩ := hu
  refine ⟨pk_in G 18 hG, ?_⟩
  dsimp only
  rw [nI_clamp (show G < 2 ^ 31 by omega), k1 G hG, rt_E0]
  refine br_t (rt_z P (by omega)) ?_
  unfold wX_enter_48
  refine rt_note hu' (fun v e hv => ?_)
  obtain ⟨c0, c1, c2, d1, d2, d3, d4, d5, d6, d7, d8, d9, d10, d11⟩ := v
  have e' : c1 = 1 := e
  subst e'
  exact H _ hv
theorem rt_enterB {post : Int32 → St2 → Prop} {u : St2} {x y : Int32} (hb : rt_bP x ∨ rt_bG y) (H : post (-1) u) : wpX_enter post u x y 1 := by
  obtain ⟨f0, f1, f2, a1, a2, a3, a4, a5, a6, a7, a8, a9, a10, a11⟩ := u
  unfold wpX_enter
  dsimp only
  exact rt_isP (fun _ => br_t rfl H) (fun c => br_f (by decide) (rt_isG (fun _ => br_t rfl H) (fun d => absurd hb (fun z => z.elim c d))))
end
section
theorem rt_rules {post : Int32 → Prop} {f0 f1 f2 : Int32} {a1 a2 a3 a4 a5 a6 a7 a8 a9 a10 a11 : Nat → Int32} {k : Nat} (hk : k < 18) (h3 : ∀ j, j < 3 → a3 j = 0) (H : post 0) : wpX_byRules post (f0, f1, f2, a1, a2, a3, a4, a5, a6, a7, a8, a9, a10, a11) (nI k) := by
  unfold wpX_byRules
  dsimp only
  rw [rt_r3 k hk, nI_clamp (show k % 3 < 2 ^ 31 by omega), h3 (k % 3) (by omega), rt_sh0 k hk]
  exact ⟨by decide, pk_in (k % 3) 3 (by omega), by decide, H⟩
theorem rt_s123 {post : Int32 → St2 → Prop} {J : Int32 → Int32 → (Nat → Int32) → (Nat → Int32) → (Nat → Int32) → (Nat → Int32) → (Nat → Int32) → (Nat → Int32) → (Nat → Int32) → (Nat → Int32) → (Nat → Int32) → (Nat → Int32) → (Nat → Int32) → Prop} {x1 x2 f0 f1 f2 : Int32} {a1 a2 a3 a4 a5 a6 a7 a8 a9 a10 a11 : Nat → Int32} (H : J x2 f2 a1 a2 a3 a4 a5 a6 a7 a8 a9 a10 a11) : ∃ n, wX_sourcesTo_123 post J x1 x2 0 f0 f1 n 0 f2 a1 a2 a3 a4 a5 a6 a7 a8 a9 a10 a11 :=
  pk_loop (σ := Unit) (fun n i _ => wX_sourcesTo_123 post J x1 x2 0 f0 f1 n (nI i) f2 a1 a2 a3 a4 a5 a6 a7 a8 a9 a10 a11) (fun _ _ => True) 18 0 () (by omega) trivial
    (fun n _ _ => pk_le 18 18 (fun _ => H) (fun z => absurd z (by omega)))
    (fun n i _ hi _ hw => pk_le 18 i (fun z => absurd z (by omega)) (fun _ => br_t (rt_z i hi) (nm_r (nI_1 i) (hw () trivial))))
theorem rt_src {post : Int32 → St2 → Prop} {m P G ld k : Nat} {C : Nat → Int32} {u : St2} (h : rt_ok m P G ld C u) (hk : k < 18) (H : ∀ u', rt_ok m P G ld C u' → post ((1 : Int32) <<< (nI k &&& 31)) u') : wpX_sourcesTo post u (nI k) := by
  obtain ⟨f0, f1, f2, a1, a2, a3, a4, a5, a6, a7, a8, a9, a10, a11⟩ := u
  have h' := h
  obtain ⟨rfl, rfl, hl, hm, hP, hG, h1, h2, h3, h4, h9, hC⟩ := h
  unfold wpX_sourcesTo
  dsimp only
  rw [nI_clamp (show k < 2 ^ 31 by omega), rt_b8 k hk]
  refine ⟨pk_in k 18 hk, ?_⟩
  rcases h9 k hk with e | e
  · rw [e]
    refine br_t rt_k0 (nm_e (nm_e ⟨2, ?_⟩))
    refine pk_le 1 0 (fun z => absurd z (by omega)) (fun _ => nm_r (nI_pred 0) ⟨pk_in 0 18 (by omega), ?_⟩)
    refine nm_r (show upd a10 0 (nI k) (nI 0).toNatClampNeg = nI k from pk_us) ⟨pk_in k 18 hk, ?_⟩
    rw [nI_clamp (show k < 2 ^ 31 by omega), e, h2 k hk]
    refine nm_e (br_t rt_k0 ⟨pk_in k 18 hk, rt_rules hk h3 ?_⟩)
    refine nm_r (show ((0 : Int32) ||| 0) &&& (((1 : Int32) <<< (nI k &&& 31)) ^^^ (-1)) = 0 by rw [rt_or0, rt_0and]) (nm_r (rt_or0 _) (rt_s123 ?_))
    refine pk_le 0 0 (fun _ => ⟨pk_in k 18 hk, ?_⟩) (fun z => absurd z (by omega))
    rw [nI_clamp (show k < 2 ^ 31 by omega)]
    refine nm_e (H _ ⟨rfl, rfl, hl, hm, hP, hG, h1, h2, h3, h4, fun j hj => ?_, hC⟩)
    by_cases c : j = k
    · rw [c, pk_us]
      exact Or.inr rfl
    · rw [pk_un c]
      exact h9 j hj
  · rw [e, rt_low k hk]
    exact br_f (rt_k1 k hk) ⟨pk_in k 18 hk, H _ h'⟩
theorem rt_m11 {post : Int32 → St2 → Prop} {f0 f1 f2 : Int32} {a1 a2 a3 a4 a5 a6 a7 a8 a9 a10 a11 : Nat → Int32} {k : Nat} (hk : k < 18) (H : post (a1 k) (f0, f1, f2, a1, a2, a3, a4, a5, a6, a7, a8, a9, a10, a11)) : ∃ n, wX_membersOf_11 post ((1 : Int32) <<< (nI k &&& 31)) f0 f1 f2 a1 a2 a3 a4 a5 a6 a7 a8 a9 a10 a11 n 0 0 :=
  pk_loop (fun n i s => wX_membersOf_11 post ((1 : Int32) <<< (nI k &&& 31)) f0 f1 f2 a1 a2 a3 a4 a5 a6 a7 a8 a9 a10 a11 n s (nI i)) (fun i s => s = if k < i then a1 k else 0) 18 0 0 (by omega) (if_neg (by omega)).symm
    (fun n s h => pk_le 18 18 (fun _ => by rw [h, if_pos hk]; exact H) (fun z => absurd z (by omega)))
    (fun n i s hi h hw => pk_le 18 i (fun z => absurd z (by omega)) (fun _ => by
      rw [rt_bit k hk i hi]
      by_cases c : i = k
      · rw [if_pos c]
        refine br_f (by decide) ⟨pk_in i 18 hi, nm_e (nm_r (nI_1 i) (hw _ ?_))⟩
        rw [h, if_neg (by omega), if_pos (by omega), nI_clamp (show i < 2 ^ 31 by omega), rt_0or, c]
      · rw [if_neg c]
        refine br_t rfl (nm_r (nI_1 i) (hw _ ?_))
        rw [h]
        by_cases d : k < i
        · rw [if_pos d, if_pos (by omega)]
        · rw [if_neg d, if_neg (by omega)]))
theorem rt_mem {post : Int32 → St2 → Prop} {m P G ld k : Nat} {C : Nat → Int32} {u : St2} (h : rt_ok m P G ld C u) (hk : k < 18) (H : ∀ u', rt_ok m P G ld C u' → post (rt_E P G ld k) u') : wpX_membersOf post u (nI k) := by
  obtain ⟨f0, f1, f2, a1, a2, a3, a4, a5, a6, a7, a8, a9, a10, a11⟩ := u
  unfold wpX_membersOf
  dsimp only
  refine rt_src h hk (fun u' hu => ?_)
  obtain ⟨g0, g1, g2, b1, b2, b3, b4, b5, b6, b7, b8, b9, b10, b11⟩ := u'
  dsimp only
  have hu' := hu
  obtain ⟨_, _, _, _, _, _, k1, _⟩ := hu
  refine rt_m11 hk ?_
  rw [k1 k hk]
  exact H _ hu'
theorem rt_s123_2 {post : Int32 → St2 → Prop} {J : Int32 → Int32 → (Nat → Int32) → (Nat → Int32) → (Nat → Int32) → (Nat → Int32) → (Nat → Int32) → (Nat → Int32) → (Nat → Int32) → (Nat → Int32) → (Nat → Int32) → (Nat → Int32) → (Nat → Int32) → Prop} {x1 x2 f0 f1 f2 : Int32} {a1 a2 a3 a4 a5 a6 a7 a8 a9 a10 a11 : Nat → Int32} (H : J x2 f2 a1 a2 a3 a4 a5 a6 a7 a8 a9 a10 a11) : ∃ n, wX_sourcesTo_2_123 post J x1 x2 0 f0 f1 n 0 f2 a1 a2 a3 a4 a5 a6 a7 a8 a9 a10 a11 :=
  pk_loop (σ := Unit) (fun n i _ => wX_sourcesTo_2_123 post J x1 x2 0 f0 f1 n (nI i) f2 a1 a2 a3 a4 a5 a6 a7 a8 a9 a10 a11) (fun _ _ => True) 18 0 () (by omega) trivial
    (fun n _ _ => pk_le 18 18 (fun _ => H) (fun z => absurd z (by omega)))
    (fun n i _ hi _ hw => pk_le 18 i (fun z => absurd z (by omega)) (fun _ => br_t (rt_z i hi) (nm_r (nI_1 i) (hw () trivial))))
theorem rt_src_2 {post : Int32 → St2 → Prop} {m P G ld k : Nat} {C : Nat → Int32} {u : St2} (h : rt_ok m P G ld C u) (hk : k < 18) (H : ∀ u', rt_ok m P G ld C u' → post ((1 : Int32) <<< (nI k &&& 31)) u') : wpX_sourcesTo_2 post u (nI k) := by
  obtain ⟨f0, f1, f2, a1, a2, a3, a4, a5, a6, a7, a8, a9, a10, a11⟩ := u
  have h' := h
  obtain ⟨rfl, rfl, hl, hm, hP, hG, h1, h2, h3, h4, h9, hC⟩ := h
  unfold wpX_sourcesTo_2
  dsimp only
  rw [nI_clamp (show k < 2 ^ 31 by omega), rt_b8 k hk]
  refine ⟨pk_in k 18 hk, ?_⟩
  rcases h9 k hk with e | e
  · rw [e]
    refine br_t rt_k0 (nm_e (nm_e ⟨2, ?_⟩))
    refine pk_le 1 0 (fun z => absurd z (by omega)) (fun _ => nm_r (nI_pred 0) ⟨pk_in 0 18 (by omega), ?_⟩)
    refine nm_r (show upd a10 0 (nI k) (nI 0).toNatClampNeg = nI k from pk_us) ⟨pk_in k 18 hk, ?_⟩
    rw [nI_clamp (show k < 2 ^ 31 by omega), e, h2 k hk]
    refine nm_e (br_t rt_k0 ⟨pk_in k 18 hk, rt_rules hk h3 ?_⟩)
    refine nm_r (show ((0 : Int32) ||| 0) &&& (((1 : Int32) <<< (nI k &&& 31)) ^^^ (-1)) = 0 by rw [rt_or0, rt_0and]) (nm_r (rt_or0 _) (rt_s123_2 ?_))
    refine pk_le 0 0 (fun _ => ⟨pk_in k 18 hk, ?_⟩) (fun z => absurd z (by omega))
    rw [nI_clamp (show k < 2 ^ 31 by omega)]
    refine nm_e (H _ ⟨rfl, rfl, hl, hm, hP, hG, h1, h2, h3, h4, fun j hj => ?_, hC⟩)
    by_cases c : j = k
    · rw [c, pk_us]
      exact Or.inr rfl
    · rw [pk_un c]
      exact h9 j hj
  · rw [e, rt_low k hk]
    exact br_f (rt_k1 k hk) ⟨pk_in k 18 hk, H _ h'⟩
theorem rt_m11_2 {post : Int32 → St2 → Prop} {f0 f1 f2 : Int32} {a1 a2 a3 a4 a5 a6 a7 a8 a9 a10 a11 : Nat → Int32} {k : Nat} (hk : k < 18) (H : post (a1 k) (f0, f1, f2, a1, a2, a3, a4, a5, a6, a7, a8, a9, a10, a11)) : ∃ n, wX_membersOf_2_11 post ((1 : Int32) <<< (nI k &&& 31)) f0 f1 f2 a1 a2 a3 a4 a5 a6 a7 a8 a9 a10 a11 n 0 0 :=
  pk_loop (fun n i s => wX_membersOf_2_11 post ((1 : Int32) <<< (nI k &&& 31)) f0 f1 f2 a1 a2 a3 a4 a5 a6 a7 a8 a9 a10 a11 n s (nI i)) (fun i s => s = if k < i then a1 k else 0) 18 0 0 (by omega) (if_neg (by omega)).symm
    (fun n s h => pk_le 18 18 (fun _ => by rw [h, if_pos hk]; exact H) (fun z => absurd z (by omega)))
    (fun n i s hi h hw => pk_le 18 i (fun z => absurd z (by omega)) (fun _ => by
      rw [rt_bit k hk i hi]
      by_cases c : i = k
      · rw [if_pos c]
        refine br_f (by decide) ⟨pk_in i 18 hi, nm_e (nm_r (nI_1 i) (hw _ ?_))⟩
        rw [h, if_neg (by omega), if_pos (by omega), nI_clamp (show i < 2 ^ 31 by omega), rt_0or, c]
      · rw [if_neg c]
        refine br_t rfl (nm_r (nI_1 i) (hw _ ?_))
        rw [h]
        by_cases d : k < i
        · rw [if_pos d, if_pos (by omega)]
        · rw [if_neg d, if_neg (by omega)]))
theorem rt_mem_2 {post : Int32 → St2 → Prop} {m P G ld k : Nat} {C : Nat → Int32} {u : St2} (h : rt_ok m P G ld C u) (hk : k < 18) (H : ∀ u', rt_ok m P G ld C u' → post (rt_E P G ld k) u') : wpX_membersOf_2 post u (nI k) := by
  obtain ⟨f0, f1, f2, a1, a2, a3, a4, a5, a6, a7, a8, a9, a10, a11⟩ := u
  unfold wpX_membersOf_2
  dsimp only
  refine rt_src_2 h hk (fun u' hu => ?_)
  obtain ⟨g0, g1, g2, b1, b2, b3, b4, b5, b6, b7, b8, b9, b10, b11⟩ := u'
  dsimp only
  have hu' := hu
  obtain ⟨_, _, _, _, _, _, k1, _⟩ := hu
  refine rt_m11_2 hk ?_
  rw [k1 k hk]
  exact H _ hu'
end
section
theorem rt_check {post : Int32 → St2 → Prop} {m P G ld S Q K : Nat} {C : Nat → Int32} {u : St2} (h : rt_ok m P G ld C u) (hm : m ≤ 1) (hP : P < 6) (hS : S ≤ m) (hQ : Q < 6) (hK : K < 18)
    (H : ∀ u', rt_ok m P G S C u' → post (if S = 1 ∧ K = G ∧ Q = P then 1 else 0) u') : wpX_check post u (nI S) (nI Q) (nI K) := by
  obtain ⟨f0, f1, f2, a1, a2, a3, a4, a5, a6, a7, a8, a9, a10, a11⟩ := u
  unfold wpX_check
  dsimp only
  refine rt_isP (fun z => absurd z (rt_okP hQ)) (fun _ => br_f (by decide) (rt_isG (fun z => absurd z (rt_okG hK)) (fun _ => br_f (by decide) (rt_isS h (fun z => absurd z (rt_okS hS hm)) (fun _ => br_f (by decide) (rt_kept h hS (br_f (by decide) (rt_load h hS (fun u' hu => ?_)))))))))
  obtain ⟨g0, g1, g2, b1, b2, b3, b4, b5, b6, b7, b8, b9, b10, b11⟩ := u'
  dsimp only
  refine rt_mem hu hK (fun v hv => ?_)
  obtain ⟨c0, c1, c2, d1, d2, d3, d4, d5, d6, d7, d8, d9, d10, d11⟩ := v
  dsimp only
  rw [rt_Eb (by omega) (by omega)]
  exact H _ hv
theorem rt_checkB {post : Int32 → St2 → Prop} {m P G ld : Nat} {C : Nat → Int32} {u : St2} {s x y : Int32} (h : rt_ok m P G ld C u) (hb : rt_bP x ∨ rt_bG y ∨ rt_bS m s) (H : post (-1) u) : wpX_check post u s x y := by
  obtain ⟨f0, f1, f2, a1, a2, a3, a4, a5, a6, a7, a8, a9, a10, a11⟩ := u
  unfold wpX_check
  dsimp only
  exact rt_isP (fun _ => br_t rfl H) (fun c => br_f (by decide) (rt_isG (fun _ => br_t rfl H) (fun d => br_f (by decide) (rt_isS h (fun _ => br_t rfl H) (fun e => absurd hb (fun z => z.elim c (fun z => z.elim d e)))))))
theorem rt_members {post : Int32 → St2 → Prop} {m P G ld S K : Nat} {C : Nat → Int32} {u : St2} (h : rt_ok m P G ld C u) (hm : m ≤ 1) (hS : S ≤ m) (hK : K < 18)
    (H : ∀ u', rt_ok m P G S C u' → post (rt_E P G S K) u') : wpX_members post u (nI S) (nI K) := by
  obtain ⟨f0, f1, f2, a1, a2, a3, a4, a5, a6, a7, a8, a9, a10, a11⟩ := u
  unfold wpX_members
  dsimp only
  refine rt_isG (fun z => absurd z (rt_okG hK)) (fun _ => br_f (by decide) (rt_isS h (fun z => absurd z (rt_okS hS hm)) (fun _ => br_f (by decide) (rt_kept h hS (br_f (by decide) (rt_load h hS (fun u' hu => ?_)))))))
  obtain ⟨g0, g1, g2, b1, b2, b3, b4, b5, b6, b7, b8, b9, b10, b11⟩ := u'
  dsimp only
  refine rt_mem hu hK (fun v hv => ?_)
  obtain ⟨c0, c1, c2, d1, d2, d3, d4, d5, d6, d7, d8, d9, d10, d11⟩ := v
  dsimp only
  exact H _ hv
theorem rt_membersB {post : Int32 → St2 → Prop} {m P G ld : Nat} {C : Nat → Int32} {u : St2} {s y : Int32} (h : rt_ok m P G ld C u) (hb : rt_bG y ∨ rt_bS m s) (H : post (-1) u) : wpX_members post u s y := by
  obtain ⟨f0, f1, f2, a1, a2, a3, a4, a5, a6, a7, a8, a9, a10, a11⟩ := u
  unfold wpX_members
  dsimp only
  exact rt_isG (fun _ => br_t rfl H) (fun d => br_f (by decide) (rt_isS h (fun _ => br_t rfl H) (fun e => absurd hb (fun z => z.elim d e))))
/-- the groups below i that hold person Q in state ld -/
def rt_g (P G ld Q i : Nat) : Int32 := if ld = 1 ∧ Q = P ∧ G < i then (1 : Int32) <<< (nI G &&& 31) else 0
theorem rt_g39 {post : Int32 → St2 → Prop} {m P G ld Q : Nat} {C : Nat → Int32} {f0 f1 f2 : Int32} {a1 a2 a3 a4 a5 a6 a7 a8 a9 a10 a11 : Nat → Int32} (h : rt_ok m P G ld C (f0, f1, f2, a1, a2, a3, a4, a5, a6, a7, a8, a9, a10, a11)) (hP : P < 6) (hQ : Q < 6)
    (H : ∀ u', rt_ok m P G ld C u' → post (rt_g P G ld Q 18) u') : ∃ n, wX_groups_39 post (nI Q) n 0 0 f0 f1 f2 a1 a2 a3 a4 a5 a6 a7 a8 a9 a10 a11 := by
  refine pk_loop (σ := Int32 × St2) (fun n i s => wX_groups_39 post (nI Q) n s.1 (nI i) s.2.1 s.2.2.1 s.2.2.2.1 s.2.2.2.2.1 s.2.2.2.2.2.1 s.2.2.2.2.2.2.1 s.2.2.2.2.2.2.2.1 s.2.2.2.2.2.2.2.2.1 s.2.2.2.2.2.2.2.2.2.1 s.2.2.2.2.2.2.2.2.2.2.1 s.2.2.2.2.2.2.2.2.2.2.2.1 s.2.2.2.2.2.2.2.2.2.2.2.2.1 s.2.2.2.2.2.2.2.2.2.2.2.2.2.1 s.2.2.2.2.2.2.2.2.2.2.2.2.2.2) (fun i s => s.1 = rt_g P G ld Q i ∧ rt_ok m P G ld C s.2) 18 0 (0, f0, f1, f2, a1, a2, a3, a4, a5, a6, a7, a8, a9, a10, a11) (by omega) ⟨Eq.symm (if_neg (fun z => absurd z.2.2 (by omega))), h⟩ ?_ ?_
  · intro n s hI
    obtain ⟨x, g0, g1, g2, b1, b2, b3, b4, b5, b6, b7, b8, b9, b10, b11⟩ := s
    have e : x = rt_g P G ld Q 18 := hI.1
    have hk := hI.2
    subst e
    exact pk_le 18 18 (fun _ => H _ hk) (fun z => absurd z (by omega))
  · intro n i s hi hI hw
    obtain ⟨x, f0, f1, f2, a1, a2, a3, a4, a5, a6, a7, a8, a9, a10, a11⟩ := s
    have e : x = rt_g P G ld Q i := hI.1
    have hk : rt_ok m P G ld C (f0, f1, f2, a1, a2, a3, a4, a5, a6, a7, a8, a9, a10, a11) := hI.2
    show wX_groups_39 post (nI Q) (n + 1) x (nI i) f0 f1 f2 a1 a2 a3 a4 a5 a6 a7 a8 a9 a10 a11
    refine pk_le 18 i (fun z => absurd z (by omega)) (fun _ => rt_mem hk hi (fun u' hu => ?_))
    obtain ⟨g0, g1, g2, b1, b2, b3, b4, b5, b6, b7, b8, b9, b10, b11⟩ := u'
    dsimp only
    rw [rt_Eb (by omega) (by omega)]
    by_cases c : ld = 1 ∧ i = G ∧ Q = P
    · rw [if_pos c]
      refine br_f (by decide) (nm_e (nm_r (nI_1 i) (hw (_, g0, g1, g2, b1, b2, b3, b4, b5, b6, b7, b8, b9, b10, b11) ⟨?_, hu⟩)))
      show x ||| (1 : Int32) <<< (nI i &&& 31) = rt_g P G ld Q (i + 1)
      rw [e]
      unfold rt_g
      rw [if_neg (fun z => absurd z.2.2 (by omega)), if_pos ⟨c.1, c.2.2, by omega⟩, rt_0or, c.2.1]
    · rw [if_neg c]
      refine br_t rfl (nm_r (nI_1 i) (hw (x, g0, g1, g2, b1, b2, b3, b4, b5, b6, b7, b8, b9, b10, b11) ⟨?_, hu⟩))
      show x = rt_g P G ld Q (i + 1)
      rw [e]
      unfold rt_g
      by_cases d : ld = 1 ∧ Q = P ∧ G < i
      · rw [if_pos d, if_pos ⟨d.1, d.2.1, by omega⟩]
      · rw [if_neg d, if_neg (fun z => (by omega : ¬ (ld = 1 ∧ Q = P ∧ G < i + 1)) z)]
theorem rt_groups {post : Int32 → St2 → Prop} {m P G ld S Q : Nat} {C : Nat → Int32} {u : St2} (h : rt_ok m P G ld C u) (hm : m ≤ 1) (hP : P < 6) (hG : G < 18) (hS : S ≤ m) (hQ : Q < 6)
    (H : ∀ u', rt_ok m P G S C u' → post (if S = 1 ∧ Q = P then (1 : Int32) <<< (nI G &&& 31) else 0) u') : wpX_groups post u (nI S) (nI Q) := by
  obtain ⟨f0, f1, f2, a1, a2, a3, a4, a5, a6, a7, a8, a9, a10, a11⟩ := u
  unfold wpX_groups
  dsimp only
  refine rt_isP (fun z => absurd z (rt_okP hQ)) (fun _ => br_f (by decide) (rt_isS h (fun z => absurd z (rt_okS hS hm)) (fun _ => br_f (by decide) (rt_kept h hS (br_f (by decide) (rt_load h hS (fun u' hu => ?_)))))))
  obtain ⟨g0, g1, g2, b1, b2, b3, b4, b5, b6, b7, b8, b9, b10, b11⟩ := u'
  dsimp only
  refine rt_g39 hu hP hQ (fun v hv => ?_)
  have e : rt_g P G S Q 18 = if S = 1 ∧ Q = P then (1 : Int32) <<< (nI G &&& 31) else 0 := by
    unfold rt_g
    by_cases c : S = 1 ∧ Q = P
    · rw [if_pos c, if_pos ⟨c.1, c.2, hG⟩]
    · rw [if_neg c, if_neg (fun z => c ⟨z.1, z.2.1⟩)]
  rw [e]
  exact H v hv
theorem rt_groupsB {post : Int32 → St2 → Prop} {m P G ld : Nat} {C : Nat → Int32} {u : St2} {s x : Int32} (h : rt_ok m P G ld C u) (hb : rt_bP x ∨ rt_bS m s) (H : post (-1) u) : wpX_groups post u s x := by
  obtain ⟨f0, f1, f2, a1, a2, a3, a4, a5, a6, a7, a8, a9, a10, a11⟩ := u
  unfold wpX_groups
  dsimp only
  exact rt_isP (fun _ => br_t rfl H) (fun d => br_f (by decide) (rt_isS h (fun _ => br_t rfl H) (fun e => absurd hb (fun z => z.elim d e))))
end
section
/-- one if the statement holds -/
def rt_o (p : Prop) [Decidable p] : Nat := if p then 1 else 0
theorem rt_oT {p : Prop} [Decidable p] (h : p) : rt_o p = 1 := if_pos h
theorem rt_oF {p : Prop} [Decidable p] (h : ¬ p) : rt_o p = 0 := if_neg h
theorem rt_oI {p : Prop} [Decidable p] : (if p then (1 : Int32) else 0) = nI (rt_o p) := by
  by_cases h : p
  · rw [if_pos h, rt_oT h]
    rfl
  · rw [if_neg h, rt_oF h]
    rfl
theorem rt_oS {ld i G P k : Nat} : rt_o (ld = 1 ∧ i = G ∧ P < k) + rt_o (ld = 1 ∧ i = G ∧ k = P) = rt_o (ld = 1 ∧ i = G ∧ P < k + 1) := by
  by_cases c : ld = 1 ∧ i = G
  · by_cases d : P < k
    · rw [rt_oT ⟨c.1, c.2, d⟩, rt_oF (fun z => absurd z.2.2 (by omega)), rt_oT ⟨c.1, c.2, by omega⟩]
    · by_cases e : k = P
      · rw [rt_oF (fun z => d z.2.2), rt_oT ⟨c.1, c.2, e⟩, rt_oT ⟨c.1, c.2, by omega⟩]
      · rw [rt_oF (fun z => d z.2.2), rt_oF (fun z => e z.2.2), rt_oF (fun z => absurd z.2.2 (by omega))]
  · rw [rt_oF (fun z => c ⟨z.1, z.2.1⟩), rt_oF (fun z => c ⟨z.1, z.2.1⟩), rt_oF (fun z => c ⟨z.1, z.2.1⟩)]
theorem rt_oG {ld i G P : Nat} (hP : P < 6) : rt_o (ld = 1 ∧ G < i) + rt_o (ld = 1 ∧ i = G ∧ P < 6) = rt_o (ld = 1 ∧ G < i + 1) := by
  by_cases c : ld = 1
  · by_cases d : G < i
    · rw [rt_oT ⟨c, d⟩, rt_oF (fun z => absurd z.2.1 (by omega)), rt_oT ⟨c, by omega⟩]
    · by_cases e : i = G
      · rw [rt_oF (fun z => d z.2), rt_oT ⟨c, e, hP⟩, rt_oT ⟨c, by omega⟩]
      · rw [rt_oF (fun z => d z.2), rt_oF (fun z => e z.2.1), rt_oF (fun z => absurd z.2 (by omega))]
  · rw [rt_oF (fun z => c z.1), rt_oF (fun z => c z.1), rt_oF (fun z => c z.1)]
theorem rt_c95 {post : Int32 → St2 → Prop} {J : Int32 → Int32 → Int32 → Int32 → Int32 → (Nat → Int32) → (Nat → Int32) → (Nat → Int32) → (Nat → Int32) → (Nat → Int32) → (Nat → Int32) → (Nat → Int32) → (Nat → Int32) → (Nat → Int32) → (Nat → Int32) → (Nat → Int32) → Prop} {P G ld i b : Nat} {f0 f1 f2 : Int32} {a1 a2 a3 a4 a5 a6 a7 a8 a9 a10 a11 : Nat → Int32} (hP : P < 6) (hi : i < 18) (hc : a11 i = 0)
    (H : J (nI (b + rt_o (ld = 1 ∧ i = G ∧ P < 6))) (nI (i + 1)) f0 f1 f2 a1 a2 a3 a4 a5 a6 a7 a8 a9 a10 a11) : ∃ n, wX_changed_95 post J (nI i) (rt_E P G ld i) f0 f1 f2 a1 a2 a3 a4 a5 a6 a7 a8 a9 a10 a11 n (nI b) 0 :=
  pk_loop (fun n k s => wX_changed_95 post J (nI i) (rt_E P G ld i) f0 f1 f2 a1 a2 a3 a4 a5 a6 a7 a8 a9 a10 a11 n s (nI k)) (fun k s => s = nI (b + rt_o (ld = 1 ∧ i = G ∧ P < k))) 6 0 (nI b) (by omega) (by rw [rt_oF (fun z => absurd z.2.2 (by omega))]; rfl)
    (fun n s h => pk_le 6 6 (fun _ => nm_r (nI_1 i) (by rw [h]; exact H)) (fun z => absurd z (by omega)))
    (fun n k s hk h hw => pk_le 6 k (fun z => absurd z (by omega)) (fun _ => ⟨pk_in i 18 hi, nm_r (by rw [nI_clamp (show i < 2 ^ 31 by omega), hc, rt_xor0, rt_Eb (by omega) (by omega), rt_oI, h, nI_add, Nat.add_assoc, rt_oS]) (nm_r (nI_1 k) (hw _ rfl))⟩))
theorem rt_c77 {post : Int32 → St2 → Prop} {m P G ld : Nat} {C : Nat → Int32} {f0 f1 f2 : Int32} {a1 a2 a3 a4 a5 a6 a7 a8 a9 a10 a11 : Nat → Int32} (h : rt_ok m P G ld C (f0, f1, f2, a1, a2, a3, a4, a5, a6, a7, a8, a9, a10, a11)) (hP : P < 6) (hC : ∀ j, j < 18 → C j = 0)
    (H : ∀ u', rt_ok m P G ld C u' → post (nI (rt_o (ld = 1 ∧ G < 18))) u') : ∃ n, wX_changed_77 post n 0 0 f0 f1 f2 a1 a2 a3 a4 a5 a6 a7 a8 a9 a10 a11 := by
  refine pk_loop (σ := Int32 × St2) (fun n i s => wX_changed_77 post n s.1 (nI i) s.2.1 s.2.2.1 s.2.2.2.1 s.2.2.2.2.1 s.2.2.2.2.2.1 s.2.2.2.2.2.2.1 s.2.2.2.2.2.2.2.1 s.2.2.2.2.2.2.2.2.1 s.2.2.2.2.2.2.2.2.2.1 s.2.2.2.2.2.2.2.2.2.2.1 s.2.2.2.2.2.2.2.2.2.2.2.1 s.2.2.2.2.2.2.2.2.2.2.2.2.1 s.2.2.2.2.2.2.2.2.2.2.2.2.2.1 s.2.2.2.2.2.2.2.2.2.2.2.2.2.2) (fun i s => s.1 = nI (rt_o (ld = 1 ∧ G < i)) ∧ rt_ok m P G ld C s.2) 18 0 (0, f0, f1, f2, a1, a2, a3, a4, a5, a6, a7, a8, a9, a10, a11) (by omega) ⟨by rw [rt_oF (fun z => absurd z.2 (by omega))]; rfl, h⟩ ?_ ?_
  · intro n s hI
    obtain ⟨x, g0, g1, g2, b1, b2, b3, b4, b5, b6, b7, b8, b9, b10, b11⟩ := s
    have e : x = nI (rt_o (ld = 1 ∧ G < 18)) := hI.1
    have hk := hI.2
    subst e
    exact pk_le 18 18 (fun _ => H _ hk) (fun z => absurd z (by omega))
  · intro n i s hi hI hw
    obtain ⟨x, f0, f1, f2, a1, a2, a3, a4, a5, a6, a7, a8, a9, a10, a11⟩ := s
    have e : x = nI (rt_o (ld = 1 ∧ G < i)) := hI.1
    have hk : rt_ok m P G ld C (f0, f1, f2, a1, a2, a3, a4, a5, a6, a7, a8, a9, a10, a11) := hI.2
    subst e
    show wX_changed_77 post (n + 1) (nI (rt_o (ld = 1 ∧ G < i))) (nI i) f0 f1 f2 a1 a2 a3 a4 a5 a6 a7 a8 a9 a10 a11
    refine pk_le 18 i (fun z => absurd z (by omega)) (fun _ => rt_mem hk hi (fun u' hu => ?_))
    obtain ⟨g0, g1, g2, b1, b2, b3, b4, b5, b6, b7, b8, b9, b10, b11⟩ := u'
    dsimp only
    have hu' := hu
    obtain ⟨_, _, _, _, _, _, _, _, _, _, _, k11⟩ := hu
    refine rt_c95 hP hi (by rw [k11]; exact hC i hi) ?_
    rw [rt_oG hP]
    exact hw (_, g0, g1, g2, b1, b2, b3, b4, b5, b6, b7, b8, b9, b10, b11) ⟨rfl, hu'⟩
theorem rt_c44 {post : Int32 → St2 → Prop} {m P G S : Nat} {C : Nat → Int32} {f0 f1 f2 : Int32} {a1 a2 a3 a4 a5 a6 a7 a8 a9 a10 a11 : Nat → Int32} (h : rt_ok m P G 0 C (f0, f1, f2, a1, a2, a3, a4, a5, a6, a7, a8, a9, a10, a11)) (hm : m ≤ 1) (hP : P < 6) (hG : G < 18) (hS : S ≤ m)
    (H : ∀ C' u', rt_ok m P G S C' u' → post (nI S) u') : ∃ n, wX_changed_44 post (nI S) n 0 f0 f1 f2 a1 a2 a3 a4 a5 a6 a7 a8 a9 a10 a11 := by
  refine pk_loop (σ := St2) (fun n i s => wX_changed_44 post (nI S) n (nI i) s.1 s.2.1 s.2.2.1 s.2.2.2.1 s.2.2.2.2.1 s.2.2.2.2.2.1 s.2.2.2.2.2.2.1 s.2.2.2.2.2.2.2.1 s.2.2.2.2.2.2.2.2.1 s.2.2.2.2.2.2.2.2.2.1 s.2.2.2.2.2.2.2.2.2.2.1 s.2.2.2.2.2.2.2.2.2.2.2.1 s.2.2.2.2.2.2.2.2.2.2.2.2.1 s.2.2.2.2.2.2.2.2.2.2.2.2.2) (fun i s => ∃ C, rt_ok m P G 0 C s ∧ ∀ j, j < i → C j = 0) 18 0 (f0, f1, f2, a1, a2, a3, a4, a5, a6, a7, a8, a9, a10, a11) (by omega) ⟨C, h, fun j hj => absurd hj (by omega)⟩ ?_ ?_
  · intro n s hI
    obtain ⟨g0, g1, g2, b1, b2, b3, b4, b5, b6, b7, b8, b9, b10, b11⟩ := s
    obtain ⟨D, hk, hD⟩ := hI
    refine pk_le 18 18 (fun _ => rt_load hk hS (fun u' hu => ?_)) (fun z => absurd z (by omega))
    obtain ⟨c0, c1, c2, d1, d2, d3, d4, d5, d6, d7, d8, d9, d10, d11⟩ := u'
    dsimp only
    refine rt_c77 hu hP hD (fun v hv => ?_)
    have e : rt_o (S = 1 ∧ G < 18) = S := by
      by_cases c : S = 1
      · rw [rt_oT ⟨c, hG⟩, c]
      · rw [rt_oF (fun z => c z.1)]
        omega
    rw [e]
    exact H D v hv
  · intro n i s hi hI hw
    obtain ⟨f0, f1, f2, a1, a2, a3, a4, a5, a6, a7, a8, a9, a10, a11⟩ := s
    obtain ⟨D, hk, hD⟩ := hI
    show wX_changed_44 post (nI S) (n + 1) (nI i) f0 f1 f2 a1 a2 a3 a4 a5 a6 a7 a8 a9 a10 a11
    refine pk_le 18 i (fun z => absurd z (by omega)) (fun _ => rt_mem_2 hk hi (fun u' hu => ?_))
    obtain ⟨g0, g1, g2, b1, b2, b3, b4, b5, b6, b7, b8, b9, b10, b11⟩ := u'
    dsimp only
    obtain ⟨k0, k1, k2, k3, k4, k5, k6, k7, k8, k9, k10, k11⟩ := hu
    rw [nI_clamp (show i < 2 ^ 31 by omega), rt_E0]
    refine ⟨pk_in i 18 hi, nm_e (nm_r (nI_1 i) (hw (g0, g1, g2, b1, b2, b3, b4, b5, b6, b7, b8, b9, b10, upd b11 i 0) ⟨upd b11 i 0, ⟨k0, k1, k2, k3, k4, k5, k6, k7, k8, k9, k10, rfl⟩, ?_⟩))⟩
    rw [k11]
    intro j hj
    by_cases c : j = i
    · rw [c, pk_us]
    · rw [pk_un c]
      exact hD j (by omega)
theorem rt_changed {post : Int32 → St2 → Prop} {m P G ld S : Nat} {C : Nat → Int32} {u : St2} (h : rt_ok m P G ld C u) (hm : m ≤ 1) (hP : P < 6) (hG : G < 18) (hS : S ≤ m)
    (H : ∀ C' u', rt_ok m P G S C' u' → post (nI S) u') : wpX_changed post u 0 (nI S) := by
  obtain ⟨f0, f1, f2, a1, a2, a3, a4, a5, a6, a7, a8, a9, a10, a11⟩ := u
  have h0 : (0 : Nat) ≤ m := Nat.zero_le m
  show wpX_changed post (f0, f1, f2, a1, a2, a3, a4, a5, a6, a7, a8, a9, a10, a11) (nI 0) (nI S)
  unfold wpX_changed
  dsimp only
  refine rt_isS h (fun z => absurd z (rt_okS h0 hm)) (fun _ => br_f (by decide) (rt_isS h (fun z => absurd z (rt_okS hS hm)) (fun _ => br_f (by decide) (rt_kept h h0 (br_f (by decide) (rt_kept h hS (br_f (by decide) (rt_load h h0 (fun u' hu => ?_)))))))))
  obtain ⟨g0, g1, g2, b1, b2, b3, b4, b5, b6, b7, b8, b9, b10, b11⟩ := u'
  dsimp only
  exact rt_c44 hu hm hP hG hS H
theorem rt_changedB {post : Int32 → St2 → Prop} {m P G ld : Nat} {C : Nat → Int32} {u : St2} {s : Int32} (h : rt_ok m P G ld C u) (hm : m ≤ 1) (hb : rt_bS m s) (H : post (-1) u) : wpX_changed post u 0 s := by
  obtain ⟨f0, f1, f2, a1, a2, a3, a4, a5, a6, a7, a8, a9, a10, a11⟩ := u
  have h0 : (0 : Nat) ≤ m := Nat.zero_le m
  show wpX_changed post (f0, f1, f2, a1, a2, a3, a4, a5, a6, a7, a8, a9, a10, a11) (nI 0) s
  unfold wpX_changed
  dsimp only
  exact rt_isS h (fun z => absurd z (rt_okS h0 hm)) (fun _ => br_f (by decide) (rt_isS h (fun _ => br_t rfl H) (fun e => absurd hb e)))
theorem rt_s55 {post : Int32 → St2 → Prop} {m P G ld S Q K : Nat} {C : Nat → Int32} {f0 f1 f2 : Int32} {a1 a2 a3 a4 a5 a6 a7 a8 a9 a10 a11 : Nat → Int32} (h : rt_ok m P G ld C (f0, f1, f2, a1, a2, a3, a4, a5, a6, a7, a8, a9, a10, a11)) (hm : m ≤ 1) (hP : P < 6) (hS : S ≤ m) (hQ : Q < 6) (hK : K < 18)
    (H : ∀ l u', rt_ok m P G l C u' → post (if m = 1 ∧ Q = P ∧ K = G then 1 else -3) u') : ∃ n, wX_since_55 post (nI Q) (nI K) n (nI S) f0 f1 f2 a1 a2 a3 a4 a5 a6 a7 a8 a9 a10 a11 := by
  refine pk_loop (σ := St2) (fun n i s => wX_since_55 post (nI Q) (nI K) n (nI i) s.1 s.2.1 s.2.2.1 s.2.2.2.1 s.2.2.2.2.1 s.2.2.2.2.2.1 s.2.2.2.2.2.2.1 s.2.2.2.2.2.2.2.1 s.2.2.2.2.2.2.2.2.1 s.2.2.2.2.2.2.2.2.2.1 s.2.2.2.2.2.2.2.2.2.2.1 s.2.2.2.2.2.2.2.2.2.2.2.1 s.2.2.2.2.2.2.2.2.2.2.2.2.1 s.2.2.2.2.2.2.2.2.2.2.2.2.2) (fun i s => (∃ l, rt_ok m P G l C s) ∧ (m = 1 ∧ Q = P ∧ K = G → i ≤ 1)) (m + 1) S (f0, f1, f2, a1, a2, a3, a4, a5, a6, a7, a8, a9, a10, a11) (by omega) ⟨⟨ld, h⟩, fun _ => by omega⟩ ?_ ?_
  · intro n s hI
    obtain ⟨g0, g1, g2, b1, b2, b3, b4, b5, b6, b7, b8, b9, b10, b11⟩ := s
    obtain ⟨⟨l, hk⟩, hn⟩ := hI
    have hH := H l _ hk
    rw [if_neg (fun z => absurd (hn z) (by omega))] at hH
    obtain ⟨k0, k1, _⟩ := hk
    exact pk_lt m (m + 1) (fun _ => hH) (fun z => absurd z (by omega)) k1
  · intro n i s hi hI hw
    obtain ⟨f0, f1, f2, a1, a2, a3, a4, a5, a6, a7, a8, a9, a10, a11⟩ := s
    obtain ⟨⟨l, hk⟩, hn⟩ := hI
    have hk' := hk
    obtain ⟨k0, k1, _⟩ := hk'
    show wX_since_55 post (nI Q) (nI K) (n + 1) (nI i) f0 f1 f2 a1 a2 a3 a4 a5 a6 a7 a8 a9 a10 a11
    refine pk_lt m i (fun z => absurd z (by omega)) (fun _ => rt_load hk (by omega) (fun u' hu => ?_)) k1
    obtain ⟨g0, g1, g2, b1, b2, b3, b4, b5, b6, b7, b8, b9, b10, b11⟩ := u'
    dsimp only
    refine rt_mem hu hK (fun v hv => ?_)
    obtain ⟨c0, c1, c2, d1, d2, d3, d4, d5, d6, d7, d8, d9, d10, d11⟩ := v
    dsimp only
    rw [rt_Eb (by omega) (by omega)]
    by_cases c : i = 1 ∧ K = G ∧ Q = P
    · rw [if_pos c]
      refine br_f (by decide) ?_
      have hH := H i _ hv
      rw [if_pos ⟨by omega, c.2.2, c.2.1⟩] at hH
      rw [c.1]
      exact hH
    · rw [if_neg c]
      exact br_t rfl (nm_r (nI_1 i) (hw (c0, c1, c2, d1, d2, d3, d4, d5, d6, d7, d8, d9, d10, d11) ⟨⟨i, hv⟩, fun z => by omega⟩))
theorem rt_since {post : Int32 → St2 → Prop} {m P G ld S Q K : Nat} {C : Nat → Int32} {u : St2} (h : rt_ok m P G ld C u) (hm : m ≤ 1) (hP : P < 6) (hS : S ≤ m) (hQ : Q < 6) (hK : K < 18)
    (H : ∀ l u', rt_ok m P G l C u' → post (if m = 1 ∧ Q = P ∧ K = G then 1 else -3) u') : wpX_since post u (nI Q) (nI K) (nI S) := by
  obtain ⟨f0, f1, f2, a1, a2, a3, a4, a5, a6, a7, a8, a9, a10, a11⟩ := u
  have h' := h
  obtain ⟨k0, k1, _⟩ := h'
  unfold wpX_since
  dsimp only
  refine rt_isP (fun z => absurd z (rt_okP hQ)) (fun _ => br_f (by decide) (rt_isG (fun z => absurd z (rt_okG hK)) (fun _ => br_f (by decide) (rt_isS h (fun z => absurd z (rt_okS hS hm)) (fun _ => br_f (by decide) (nm_e (br_t ?_ (rt_s55 h hm hP hS hQ hK H))))))))
  rw [k1]
  exact (rt_old m (by omega) S (by omega)).2
theorem rt_sinceB {post : Int32 → St2 → Prop} {m P G ld : Nat} {C : Nat → Int32} {u : St2} {s x y : Int32} (h : rt_ok m P G ld C u) (hb : rt_bP x ∨ rt_bG y ∨ rt_bS m s) (H : post (-1) u) : wpX_since post u x y s := by
  obtain ⟨f0, f1, f2, a1, a2, a3, a4, a5, a6, a7, a8, a9, a10, a11⟩ := u
  unfold wpX_since
  dsimp only
  exact rt_isP (fun _ => br_t rfl H) (fun c => br_f (by decide) (rt_isG (fun _ => br_t rfl H) (fun d => br_f (by decide) (rt_isS h (fun _ => br_t rfl H) (fun e => absurd hb (fun z => z.elim c (fun z => z.elim d e)))))))
end
section
/-- what the law's own booleans say: put; couple; there; in -/
def rt_l5 (m P G : Nat) (x0 x1 x5 : Int32) : Prop := m ≤ 1 ∧ P < 6 ∧ G < 18 ∧ x5 = nI m ∧ (m = 1 → x0 = nI P ∧ x1 = nI G) ∧ (m = 0 → rt_bP x0 ∨ rt_bG x1)
def rt_l6 (x2 x3 x6 : Int32) : Prop := (x6 = 0 ∧ (rt_bP x2 ∨ rt_bG x3)) ∨ (x6 = 1 ∧ ∃ Q, Q < 6 ∧ ∃ K, K < 18 ∧ x2 = nI Q ∧ x3 = nI K)
def rt_l8 (m : Nat) (x4 x8 : Int32) : Prop := (x8 = 0 ∧ rt_bS m x4) ∨ (x8 = 1 ∧ ∃ S, S ≤ m ∧ x4 = nI S)
def rt_l9 (m : Nat) (x4 x9 : Int32) : Prop := (x9 = 1 ∧ m = 1 ∧ x4 = 1) ∨ (x9 = 0 ∧ ¬ (m = 1 ∧ x4 = 1))
theorem rt_297 {mc ms kc ks m P G ld : Nat} {C : Nat → Int32} {x0 x1 x2 x3 x4 x5 x6 x8 z f0 f1 f2 : Int32} {a1 a2 a3 a4 a5 a6 a7 a8 a9 a10 a11 : Nat → Int32} (l5 : rt_l5 m P G x0 x1 x5) (l6 : rt_l6 x2 x3 x6) (l8 : rt_l8 m x4 x8) (h : rt_ok m P G ld C (f0, f1, f2, a1, a2, a3, a4, a5, a6, a7, a8, a9, a10, a11)) : wL_lawOf_297 (fun r _ => r = 1) mc ms x0 x1 x2 x3 x4 x5 x6 x8 z z kc ks f0 f1 f2 a1 a2 a3 a4 a5 a6 a7 a8 a9 a10 a11 := by
  unfold wL_lawOf_297
  refine br_t rfl ?_
  obtain ⟨hm, hP, hG, e5, e01, _⟩ := l5
  rcases l6 with ⟨e6, hb⟩ | ⟨e6, Q, hQ, K, hK, rfl, rfl⟩
  · exact rt_sinceB h (hb.elim Or.inl (fun z => Or.inr (Or.inl z))) (br_t e6 (br_t rfl rfl))
  · have n6 : ¬ x6 = 0 := by rw [e6]; decide
    rcases l8 with ⟨e8, hb⟩ | ⟨e8, S, hS, rfl⟩
    · exact rt_sinceB h (Or.inr (Or.inr hb)) (br_f n6 (br_t e8 (br_t rfl rfl)))
    · have n8 : ¬ x8 = 0 := by rw [e8]; decide
      refine rt_since h hm hP hS hQ hK (fun l u' hu => ?_)
      obtain ⟨g0, g1, g2, b1, b2, b3, b4, b5, b6, b7, b8, b9, b10, b11⟩ := u'
      dsimp only
      refine br_f n6 (br_f n8 ?_)
      by_cases c : m = 1
      · obtain ⟨rfl, rfl⟩ := e01 c
        refine br_f (by rw [e5, c]; decide) (pk_eq Q P (fun d => pk_eq K G (fun e => ?_) (fun e => ?_)) (fun d => ?_))
        · rw [if_pos ⟨c, d, e⟩]
          exact br_t rfl rfl
        · rw [if_neg (fun z => e z.2.2)]
          exact br_t rfl rfl
        · rw [if_neg (fun z => d z.2.1)]
          exact br_t rfl rfl
      · refine br_t (by rw [e5, show m = 0 by omega]; rfl) ?_
        rw [if_neg (fun z => c z.1)]
        exact br_t rfl rfl
theorem rt_273 {mc ms kc ks m P G ld : Nat} {C : Nat → Int32} {x0 x1 x2 x3 x4 x5 x6 x8 z f0 f1 f2 : Int32} {a1 a2 a3 a4 a5 a6 a7 a8 a9 a10 a11 : Nat → Int32} (l5 : rt_l5 m P G x0 x1 x5) (l6 : rt_l6 x2 x3 x6) (l8 : rt_l8 m x4 x8) (h : rt_ok m P G ld C (f0, f1, f2, a1, a2, a3, a4, a5, a6, a7, a8, a9, a10, a11)) : wL_lawOf_273 (fun r _ => r = 1) mc ms x0 x1 x2 x3 x4 x5 x6 x8 z z kc ks f0 f1 f2 a1 a2 a3 a4 a5 a6 a7 a8 a9 a10 a11 := by
  unfold wL_lawOf_273
  refine br_t rfl ?_
  have l5' := l5
  have l8' := l8
  obtain ⟨hm, hP, hG, _⟩ := l5
  rcases l8 with ⟨e8, hb⟩ | ⟨e8, S, hS, rfl⟩
  · exact rt_changedB h hm hb (br_t e8 (rt_297 l5' l6 l8' h))
  · refine rt_changed h hm hP hG hS (fun C' u' hu => ?_)
    obtain ⟨g0, g1, g2, b1, b2, b3, b4, b5, b6, b7, b8, b9, b10, b11⟩ := u'
    dsimp only
    exact br_f (by rw [e8]; decide) (rt_297 l5' l6 l8' hu)
theorem rt_225 {mc ms kc ks m P G ld : Nat} {C : Nat → Int32} {x0 x1 x2 x3 x4 x5 x6 x8 x9 z f0 f1 f2 : Int32} {a1 a2 a3 a4 a5 a6 a7 a8 a9 a10 a11 : Nat → Int32} (l5 : rt_l5 m P G x0 x1 x5) (l6 : rt_l6 x2 x3 x6) (l8 : rt_l8 m x4 x8) (l9 : rt_l9 m x4 x9) (h : rt_ok m P G ld C (f0, f1, f2, a1, a2, a3, a4, a5, a6, a7, a8, a9, a10, a11)) : wL_lawOf_225 (fun r _ => r = 1) mc ms x0 x1 x2 x3 x4 x5 x6 x8 x9 z z kc ks f0 f1 f2 a1 a2 a3 a4 a5 a6 a7 a8 a9 a10 a11 := by
  unfold wL_lawOf_225
  refine br_t rfl ?_
  have l5' := l5
  have l8' := l8
  obtain ⟨hm, hP, hG, _, e01, _⟩ := l5
  by_cases bp : rt_bP x2
  · exact rt_groupsB h (Or.inl bp) (br_c (fun _ => rt_273 l5' l6 l8' h) (fun c => br_t (bp.resolve_left c) (rt_273 l5' l6 l8' h)))
  · have n0 : ¬ x2 < 0 := fun z => bp (Or.inl z)
    have n1 : ¬ 5 < x2 := fun z => bp (Or.inr z)
    obtain ⟨Q, hQ, rfl⟩ := rt_gP bp
    rcases l8 with ⟨e8, hb⟩ | ⟨e8, S, hS, rfl⟩
    · exact rt_groupsB h (Or.inr hb) (br_f n0 (br_f n1 (br_t e8 (rt_273 l5' l6 l8' h))))
    · refine rt_groups h hm hP hG hS hQ (fun u' hu => ?_)
      obtain ⟨g0, g1, g2, b1, b2, b3, b4, b5, b6, b7, b8, b9, b10, b11⟩ := u'
      dsimp only
      refine br_f n0 (br_f n1 (br_f (by rw [e8]; decide) ?_))
      rcases l9 with ⟨e9, em, e4⟩ | ⟨e9, en⟩
      · obtain ⟨rfl, rfl⟩ := e01 em
        have eS : S = 1 := (nI_eq (by omega) (by omega)).mp e4
        refine br_f (by rw [e9]; decide) (pk_eq Q P (fun d => ?_) (fun d => ?_))
        · rw [if_pos ⟨eS, d⟩]
          exact rt_273 l5' l6 l8' hu
        · rw [if_neg (fun z => d z.2)]
          exact rt_273 l5' l6 l8' hu
      · refine br_t e9 ?_
        rw [if_neg (fun z => en ⟨by omega, by rw [z.1]; rfl⟩)]
        exact rt_273 l5' l6 l8' hu
theorem rt_176 {mc ms kc ks m P G ld : Nat} {C : Nat → Int32} {x0 x1 x2 x3 x4 x5 x6 x8 x9 z f0 f1 f2 : Int32} {a1 a2 a3 a4 a5 a6 a7 a8 a9 a10 a11 : Nat → Int32} (l5 : rt_l5 m P G x0 x1 x5) (l6 : rt_l6 x2 x3 x6) (l8 : rt_l8 m x4 x8) (l9 : rt_l9 m x4 x9) (h : rt_ok m P G ld C (f0, f1, f2, a1, a2, a3, a4, a5, a6, a7, a8, a9, a10, a11)) : wL_lawOf_176 (fun r _ => r = 1) mc ms x0 x1 x2 x3 x4 x5 x6 x8 x9 z z kc ks f0 f1 f2 a1 a2 a3 a4 a5 a6 a7 a8 a9 a10 a11 := by
  unfold wL_lawOf_176
  refine br_t rfl ?_
  have l5' := l5
  have l8' := l8
  have l9' := l9
  obtain ⟨hm, hP, hG, _, e01, _⟩ := l5
  by_cases bp : rt_bG x3
  · exact rt_membersB h (Or.inl bp) (br_c (fun _ => rt_225 l5' l6 l8' l9' h) (fun c => br_t (bp.resolve_left c) (rt_225 l5' l6 l8' l9' h)))
  · have n0 : ¬ x3 < 0 := fun z => bp (Or.inl z)
    have n1 : ¬ 17 < x3 := fun z => bp (Or.inr z)
    obtain ⟨K, hK, rfl⟩ := rt_gG bp
    rcases l8 with ⟨e8, hb⟩ | ⟨e8, S, hS, rfl⟩
    · exact rt_membersB h (Or.inr hb) (br_f n0 (br_f n1 (br_t e8 (rt_225 l5' l6 l8' l9' h))))
    · refine rt_members h hm hS hK (fun u' hu => ?_)
      obtain ⟨g0, g1, g2, b1, b2, b3, b4, b5, b6, b7, b8, b9, b10, b11⟩ := u'
      dsimp only
      refine br_f n0 (br_f n1 (br_f (by rw [e8]; decide) ?_))
      rcases l9 with ⟨e9, em, e4⟩ | ⟨e9, en⟩
      · obtain ⟨rfl, rfl⟩ := e01 em
        have eS : S = 1 := (nI_eq (by omega) (by omega)).mp e4
        refine br_f (by rw [e9]; decide) (pk_eq K G (fun d => ?_) (fun d => ?_))
        · rw [show rt_E P G S K = (1 : Int32) <<< (nI P &&& 31) from if_pos ⟨eS, d⟩]
          exact rt_225 l5' l6 l8' l9' hu
        · rw [show rt_E P G S K = 0 from if_neg (fun z => d z.2)]
          exact rt_225 l5' l6 l8' l9' hu
      · refine br_t e9 ?_
        rw [show rt_E P G S K = 0 from if_neg (fun z => en ⟨by omega, by rw [z.1]; rfl⟩)]
        exact rt_225 l5' l6 l8' l9' hu
theorem rt_128 {mc ms kc ks m P G ld : Nat} {C : Nat → Int32} {x0 x1 x2 x3 x4 x5 x6 x8 x9 z f0 f1 f2 : Int32} {a1 a2 a3 a4 a5 a6 a7 a8 a9 a10 a11 : Nat → Int32} (l5 : rt_l5 m P G x0 x1 x5) (l6 : rt_l6 x2 x3 x6) (l8 : rt_l8 m x4 x8) (l9 : rt_l9 m x4 x9) (h : rt_ok m P G ld C (f0, f1, f2, a1, a2, a3, a4, a5, a6, a7, a8, a9, a10, a11)) : wL_lawOf_128 (fun r _ => r = 1) mc ms x0 x1 x2 x3 x4 x5 x6 x8 x9 z z kc ks f0 f1 f2 a1 a2 a3 a4 a5 a6 a7 a8 a9 a10 a11 := by
  unfold wL_lawOf_128
  refine br_t rfl ?_
  have l5' := l5
  have l6' := l6
  have l8' := l8
  have l9' := l9
  obtain ⟨hm, hP, hG, _, e01, _⟩ := l5
  rcases l6 with ⟨e6, hb⟩ | ⟨e6, Q, hQ, K, hK, rfl, rfl⟩
  · exact rt_checkB h (hb.elim Or.inl (fun z => Or.inr (Or.inl z))) (br_t e6 (rt_176 l5' l6' l8' l9' h))
  · have n6 : ¬ x6 = 0 := by rw [e6]; decide
    rcases l8 with ⟨e8, hb⟩ | ⟨e8, S, hS, rfl⟩
    · exact rt_checkB h (Or.inr (Or.inr hb)) (br_f n6 (br_t e8 (rt_176 l5' l6' l8' l9' h)))
    · refine rt_check h hm hP hS hQ hK (fun u' hu => ?_)
      obtain ⟨g0, g1, g2, b1, b2, b3, b4, b5, b6, b7, b8, b9, b10, b11⟩ := u'
      dsimp only
      refine br_f n6 (br_f (by rw [e8]; decide) ?_)
      rcases l9 with ⟨e9, em, e4⟩ | ⟨e9, en⟩
      · obtain ⟨rfl, rfl⟩ := e01 em
        have eS : S = 1 := (nI_eq (by omega) (by omega)).mp e4
        refine br_f (by rw [e9]; decide) (pk_eq Q P (fun d => pk_eq K G (fun e => ?_) (fun e => ?_)) (fun d => ?_))
        · rw [if_pos ⟨eS, e, d⟩]
          exact rt_176 l5' l6' l8' l9' hu
        · rw [if_neg (fun z => e z.2.1)]
          exact rt_176 l5' l6' l8' l9' hu
        · rw [if_neg (fun z => d z.2.2)]
          exact rt_176 l5' l6' l8' l9' hu
      · refine br_t e9 ?_
        rw [if_neg (fun z => en ⟨by omega, by rw [z.1]; rfl⟩)]
        exact rt_176 l5' l6' l8' l9' hu
theorem rt_new {P G : Nat} (hP : P < 6) (hG : G < 18) : rt_ok 0 P G 0 (fun _ => 0) (0, 0, 0, (fun _ => 0), (fun _ => 0), (fun _ => 0), (fun _ => 0), (fun _ => 0), (fun _ => 0), (fun _ => 0), (fun _ => 0), (fun _ => 0), (fun _ => 0), (fun _ => 0)) :=
  ⟨rfl, rfl, Nat.le_refl 0, by omega, hP, hG, fun _ _ => rt_E0.symm, fun _ _ => rfl, fun _ _ => rfl, fun z => absurd z (by omega), fun _ _ => Or.inl rfl, rfl⟩
theorem rt_99 {m P G : Nat} {x0 x1 x2 x3 x4 x5 x6 x8 x9 : Int32} (l5 : rt_l5 m P G x0 x1 x5) (l6 : rt_l6 x2 x3 x6) (l8 : rt_l8 m x4 x8) (l9 : rt_l9 m x4 x9) : wL_lawOf_99 (fun r _ => r = 1) 78 1232 x0 x1 x2 x3 x4 x5 x6 x8 x9 0 0 := by
  unfold wL_lawOf_99
  refine ⟨by omega, by omega, 20, 200, by omega, by omega, ?_⟩
  unfold wpX_init
  dsimp only
  refine ⟨by omega, by omega, by omega, by omega, by omega, by omega, by omega, by omega, by omega, by omega, by omega, by omega, by omega, by omega, by omega, by omega, by omega, by omega, by omega, by omega, by omega, by omega, ?_⟩
  have l5' := l5
  obtain ⟨hm, hP, hG, e5, e01, eb⟩ := l5
  by_cases c : m = 1
  · subst c
    obtain ⟨rfl, rfl⟩ := e01 rfl
    refine rt_enter (rt_new hP hG) (fun u' hu => ?_)
    obtain ⟨g0, g1, g2, b1, b2, b3, b4, b5, b6, b7, b8, b9, b10, b11⟩ := u'
    dsimp only
    exact br_f (by rw [e5]; decide) (rt_128 l5' l6 l8 l9 hu)
  · have c0 : m = 0 := by omega
    subst c0
    exact rt_enterB (eb rfl) (br_t e5 (rt_128 l5' l6 l8 l9 (rt_new hP hG)))
theorem rt_81 {m P G : Nat} {x0 x1 x2 x3 x4 x5 x6 x8 : Int32} (l5 : rt_l5 m P G x0 x1 x5) (l6 : rt_l6 x2 x3 x6) (l8 : rt_l8 m x4 x8) : wL_lawOf_81 (fun r _ => r = 1) 78 1232 x0 x1 x2 x3 x4 x5 x6 x8 0 0 := by
  have l5' := l5
  obtain ⟨hm, _, _, e5, _⟩ := l5
  refine pk_eq m 0 (fun c => ?_) (fun c => br_c (fun d => ?_) (fun d => ?_)) e5
  · exact rt_99 l5' l6 l8 (Or.inr ⟨rfl, fun z => absurd z.1 (by omega)⟩)
  · exact rt_99 l5' l6 l8 (Or.inl ⟨rfl, by omega, d⟩)
  · exact rt_99 l5' l6 l8 (Or.inr ⟨rfl, fun z => d z.2⟩)
theorem rt_62 {m P G : Nat} {x0 x1 x2 x3 x4 x5 x6 : Int32} (l5 : rt_l5 m P G x0 x1 x5) (l6 : rt_l6 x2 x3 x6) : wL_lawOf_62 (fun r _ => r = 1) 78 1232 x0 x1 x2 x3 x4 x5 x6 (nI m) 0 0 :=
  br_c (fun c => rt_81 l5 l6 (Or.inl ⟨rfl, Or.inl c⟩)) (fun c => br_c (fun d => rt_81 l5 l6 (Or.inl ⟨rfl, Or.inr d⟩)) (fun d => rt_81 l5 l6 (Or.inr ⟨rfl, rt_gS l5.1 (fun z => z.elim c d)⟩)))
theorem rt_50 {m P G : Nat} {x0 x1 x2 x3 x4 x5 x6 : Int32} (l5 : rt_l5 m P G x0 x1 x5) (l6 : rt_l6 x2 x3 x6) : wL_lawOf_50 (fun r _ => r = 1) 78 1232 x0 x1 x2 x3 x4 x5 x6 0 0 := by
  have l5' := l5
  obtain ⟨hm, _, _, e5, _⟩ := l5
  have w := rt_62 (x4 := x4) l5' l6
  by_cases c : m = 1
  · subst c
    exact br_f (by rw [e5]; decide) w
  · have c0 : m = 0 := by omega
    subst c0
    exact br_t e5 w
theorem rt_24 {m P G : Nat} {x0 x1 x2 x3 x4 x5 : Int32} (l5 : rt_l5 m P G x0 x1 x5) : wL_lawOf_24 (fun r _ => r = 1) 78 1232 x0 x1 x2 x3 x4 x5 0 0 := by
  refine br_c (fun c => rt_50 l5 (Or.inl ⟨rfl, Or.inl (Or.inl c)⟩)) (fun c1 => br_c (fun c => rt_50 l5 (Or.inl ⟨rfl, Or.inl (Or.inr c)⟩)) (fun c2 => br_c (fun c => rt_50 l5 (Or.inl ⟨rfl, Or.inr (Or.inl c)⟩)) (fun c3 => br_c (fun c => rt_50 l5 (Or.inl ⟨rfl, Or.inr (Or.inr c)⟩)) (fun c4 => ?_))))
  obtain ⟨Q, hQ, e2⟩ := rt_gP (x := x2) (fun z => z.elim c1 c2)
  obtain ⟨K, hK, e3⟩ := rt_gG (x := x3) (fun z => z.elim c3 c4)
  exact rt_50 l5 (Or.inr ⟨rfl, Q, hQ, K, hK, e2, e3⟩)
theorem rt_bad {x0 x1 x2 x3 x4 : Int32} (hb : rt_bP x0 ∨ rt_bG x1) : wL_lawOf_23 (fun r _ => r = 1) 78 1232 x0 x1 x2 x3 x4 0 0 :=
  rt_24 (m := 0) (P := 0) (G := 0) ⟨by omega, by omega, by omega, rfl, fun z => absurd z (by omega), fun _ => hb⟩
theorem rt_lawOf {x0 x1 x2 x3 x4 : Int32} : wpL_lawOf (fun r _ => r = 1) 78 1232 () x0 x1 x2 x3 x4 := by
  refine br_c (fun c => rt_bad (Or.inl (Or.inl c))) (fun c1 => br_c (fun c => rt_bad (Or.inl (Or.inr c))) (fun c2 => br_c (fun c => rt_bad (Or.inr (Or.inl c))) (fun c3 => br_c (fun c => rt_bad (Or.inr (Or.inr c))) (fun c4 => ?_))))
  obtain ⟨P, hP, e0⟩ := rt_gP (x := x0) (fun z => z.elim c1 c2)
  obtain ⟨G, hG, e1⟩ := rt_gG (x := x1) (fun z => z.elim c3 c4)
  exact rt_24 (m := 1) (P := P) (G := G) ⟨by omega, hP, hG, rfl, fun _ => ⟨e0, e1⟩, fun z => absurd z (by omega)⟩
theorem rt_cell {post : Int32 → Prop} {L : Nat} {xs : Nat → Int32} {x : Int32} (i : Nat) (hL : L ≤ 5) (hi : i < 5) (e : x = nI i) (H : ∀ r, post r) : wpL_cellAt post L xs () x :=
  pk_le L i (fun _ => H 0) (fun z => ⟨pk_in i L z e, H _⟩) rfl e
end
section
theorem i_vc (xs : Nat → Int32) (L : Nat) (hL : L ≤ 5) : wpL_law (fun r => r = 1) L xs :=
  rt_cell 0 hL (by omega) rfl (fun _ => rt_cell 1 hL (by omega) rfl (fun _ => rt_cell 2 hL (by omega) rfl (fun _ => rt_cell 3 hL (by omega) rfl (fun _ => rt_cell 4 hL (by omega) rfl (fun _ => ⟨78, 1232, by omega, by omega, rt_lawOf⟩)))))
end
