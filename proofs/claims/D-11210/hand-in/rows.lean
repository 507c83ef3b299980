section
section
variable {jb kn ws : Int32} {a1 a2 a3 a4 a5 a6 a7 a8 a9 a10 a11 : Nat → Int32}
/-- line l: its parity, its job -/
theorem cp_par {l : Nat} (h : l < 14) : nI l &&& 1 = nI (l % 2) := pk_andN (n := l) (by omega) (m := 1) 1 (by decide)
theorem cp_job {l : Nat} (h : l < 14) : nI l / 2 = nI (l / 2) := pk_div (a := l) (d := 2) (by omega) (by decide) (by decide)
theorem cp_jc {l : Nat} (h : l < 14) : (nI l / 2).toNatClampNeg = l / 2 := by rw [cp_job h, nI_clamp (by omega)]
theorem cp_20 : ¬ (2 : Int32) = 0 := by decide
/-- the length of a line -/
theorem cp_len {post : Int32 → Prop} {r : Int32} (l : Nat) (hl : l < 14) (e : (if l % 2 = 0 then a3 (l / 2) else a4 (l / 2)) = r) (H : post r) :
    wpX_lengthOf post (jb, kn, ws, a1, a2, a3, a4, a5, a6, a7, a8, a9, a10, a11) (nI l) := by
  refine pk_eq (l % 2) 0 (fun z => ⟨cp_20, pk_in (l / 2) 7 (by omega) (cp_job hl), ?_⟩) (fun z => ⟨cp_20, pk_in (l / 2) 7 (by omega) (cp_job hl), ?_⟩) (cp_par hl)
  · rw [if_pos z] at e
    rw [cp_jc hl, e]
    exact H
  · rw [if_neg z] at e
    rw [cp_jc hl, e]
    exact H
/-- the room on a line, forward and back -/
theorem cp_room0 {post : Int32 → Prop} {r : Int32} (l : Nat) (hl : l < 14) (e : (if l % 2 = 0 then a5 (l / 2) - a6 l else 1000000) = r) (H : post r) :
    wpX_roomOf post (jb, kn, ws, a1, a2, a3, a4, a5, a6, a7, a8, a9, a10, a11) (nI l) 0 := by
  refine br_t rfl (pk_eq (l % 2) 0 (fun z => ⟨cp_20, pk_in (l / 2) 7 (by omega) (cp_job hl), pk_in l 14 hl, ?_⟩) (fun z => ?_) (cp_par hl))
  · rw [if_pos z] at e
    rw [cp_jc hl, nI_clamp (show l < 2 ^ 31 by omega), e]
    exact H
  · rw [if_neg z] at e
    rw [e]
    exact H
theorem cp_10 : ¬ (1 : Int32) = 0 := by decide
theorem cp_room1 {post : Int32 → Prop} (l : Nat) (hl : l < 14) (H : post (a6 l)) : wpX_roomOf post (jb, kn, ws, a1, a2, a3, a4, a5, a6, a7, a8, a9, a10, a11) (nI l) 1 := by
  refine br_f cp_10 ⟨pk_in l 14 hl, ?_⟩
  rw [nI_clamp (show l < 2 ^ 31 by omega)]
  exact H
theorem cp_123 {post : Int32 → St2 → Prop} {l x : Int32} (B : Nat) (hB : B < 6) (H : post 1 (jb, kn, ws, a1, a2, a3, a4, a5, a6, upd a7 B x, upd a8 B 1, upd a9 B l, a10, a11)) :
    wX_stretch_123 post l 0 (nI B) x jb kn ws a1 a2 a3 a4 a5 a6 a7 a8 a9 a10 a11 := by
  unfold wX_stretch_123
  rw [nI_clamp (show B < 2 ^ 31 by omega)]
  exact ⟨pk_in B 6 hB, nm_e ⟨pk_in B 6 hB, nm_e (br_t rfl ⟨pk_in B 6 hB, nm_e H⟩)⟩⟩
/-- a line walked forward -/
theorem cp_sf {post : Int32 → St2 → Prop} (l A B : Nat) (len room : Int32) (hl : l < 14) (hA : A < 6) (hB : B < 6) (ea : a1 (l / 2) = nI A) (eb : a2 (l / 2) = nI B)
    (el : (if l % 2 = 0 then a3 (l / 2) else a4 (l / 2)) = len) (er : (if l % 2 = 0 then a5 (l / 2) - a6 l else 1000000) = room)
    (H0 : (a8 A = 0 ∨ room = 0 ∨ B = 0 ∨ (¬ a8 B = 0 ∧ ¬ a7 B < a7 A + len)) → post 0 (jb, kn, ws, a1, a2, a3, a4, a5, a6, a7, a8, a9, a10, a11))
    (H1 : ¬ a8 A = 0 → ¬ room = 0 → B ≠ 0 → (a8 B = 0 ∨ a7 B < a7 A + len) → post 1 (jb, kn, ws, a1, a2, a3, a4, a5, a6, upd a7 B (a7 A + len), upd a8 B 1, upd a9 B (nI l), a10, a11)) :
    wpX_stretch post (jb, kn, ws, a1, a2, a3, a4, a5, a6, a7, a8, a9, a10, a11) (nI l) 0 := by
  have cA : (nI A).toNatClampNeg = A := nI_clamp (by omega)
  have cB : (nI B).toNatClampNeg = B := nI_clamp (by omega)
  refine br_t rfl ⟨cp_20, pk_in (l / 2) 7 (by omega) (cp_job hl), ?_⟩
  rw [cp_jc hl, ea]
  refine br_t rfl ⟨cp_20, pk_in (l / 2) 7 (by omega) (cp_job hl), ?_⟩
  rw [cp_jc hl, eb]
  refine ⟨pk_in A 6 hA, br_t rfl ?_⟩
  refine cp_len l hl el ?_
  rw [cA]
  refine nm_e ⟨pk_in A 6 hA, ?_⟩
  rw [cA]
  refine br_c (fun z => H0 (Or.inl z)) (fun za => cp_room0 l hl er ?_)
  refine br_c (fun z => H0 (Or.inr (Or.inl z))) (fun zr => pk_eq B 0 (fun z => H0 (Or.inr (Or.inr (Or.inl z)))) (fun zb => ⟨pk_in B 6 hB, ?_⟩))
  rw [cB]
  refine br_c (fun z8 => cp_123 B hB (H1 za zr zb (Or.inl z8))) (fun z8 => ⟨pk_in B 6 hB, br_c (fun z7 => cp_123 B hB (H1 za zr zb (Or.inr z7))) (fun z7 => H0 (Or.inr (Or.inr (Or.inr ⟨z8, z7⟩))))⟩)
theorem cp_sf0 {post : Int32 → St2 → Prop} (l A B : Nat) (len room : Int32) (hl : l < 14) (hA : A < 6) (hB : B < 6) (ea : a1 (l / 2) = nI A) (eb : a2 (l / 2) = nI B)
    (el : (if l % 2 = 0 then a3 (l / 2) else a4 (l / 2)) = len) (er : (if l % 2 = 0 then a5 (l / 2) - a6 l else 1000000) = room)
    (hn : room = 0 ∨ (¬ a8 B = 0 ∧ ¬ a7 B < a7 A + len)) (H : post 0 (jb, kn, ws, a1, a2, a3, a4, a5, a6, a7, a8, a9, a10, a11)) : wpX_stretch post (jb, kn, ws, a1, a2, a3, a4, a5, a6, a7, a8, a9, a10, a11) (nI l) 0 := by
  refine cp_sf l A B len room hl hA hB ea eb el er (fun _ => H) (fun _ zr _ z => ?_)
  rcases hn with h | ⟨h1, h2⟩
  · exact absurd h zr
  · rcases z with z | z
    · exact absurd z h1
    · exact absurd z h2
theorem cp_sf1 {post : Int32 → St2 → Prop} (l A B : Nat) (len room : Int32) (hl : l < 14) (hA : A < 6) (hB : B < 6) (ea : a1 (l / 2) = nI A) (eb : a2 (l / 2) = nI B)
    (el : (if l % 2 = 0 then a3 (l / 2) else a4 (l / 2)) = len) (er : (if l % 2 = 0 then a5 (l / 2) - a6 l else 1000000) = room)
    (h8 : ¬ a8 A = 0) (hr : ¬ room = 0) (hb : B ≠ 0) (hB8 : a8 B = 0)
    (H : post 1 (jb, kn, ws, a1, a2, a3, a4, a5, a6, upd a7 B (a7 A + len), upd a8 B 1, upd a9 B (nI l), a10, a11)) : wpX_stretch post (jb, kn, ws, a1, a2, a3, a4, a5, a6, a7, a8, a9, a10, a11) (nI l) 0 := by
  refine cp_sf l A B len room hl hA hB ea eb el er (fun z => ?_) (fun _ _ _ _ => H)
  rcases z with z | z | z | z
  · exact absurd z h8
  · exact absurd z hr
  · exact absurd z hb
  · exact absurd hB8 z.1
/-- a line walked back, in vain -/
theorem cp_sb0 {post : Int32 → St2 → Prop} (l A B : Nat) (len : Int32) (hl : l < 14) (hA : A < 6) (hB : B < 6) (ea : a2 (l / 2) = nI A) (eb : a1 (l / 2) = nI B)
    (el : (if l % 2 = 0 then a3 (l / 2) else a4 (l / 2)) = len)
    (hn : a8 A = 0 ∨ a6 l = 0 ∨ B = 0 ∨ (¬ a8 B = 0 ∧ ¬ a7 B < a7 A + (-len))) (H : post 0 (jb, kn, ws, a1, a2, a3, a4, a5, a6, a7, a8, a9, a10, a11)) : wpX_stretch post (jb, kn, ws, a1, a2, a3, a4, a5, a6, a7, a8, a9, a10, a11) (nI l) 1 := by
  have cA : (nI A).toNatClampNeg = A := nI_clamp (by omega)
  have cB : (nI B).toNatClampNeg = B := nI_clamp (by omega)
  refine br_f cp_10 ⟨cp_20, pk_in (l / 2) 7 (by omega) (cp_job hl), ?_⟩
  rw [cp_jc hl, ea]
  refine br_f cp_10 ⟨cp_20, pk_in (l / 2) 7 (by omega) (cp_job hl), ?_⟩
  rw [cp_jc hl, eb]
  refine ⟨pk_in A 6 hA, br_f cp_10 ?_⟩
  refine cp_len l hl el ?_
  rw [cA]
  refine nm_e ⟨pk_in A 6 hA, ?_⟩
  rw [cA]
  refine br_c (fun _ => H) (fun za => cp_room1 l hl ?_)
  refine br_c (fun _ => H) (fun zr => pk_eq B 0 (fun _ => H) (fun zb => ⟨pk_in B 6 hB, ?_⟩))
  rw [cB]
  have no : (a8 B = 0 ∨ a7 B < a7 A + (-len)) → False := by
    intro z
    rcases hn with h | h | h | ⟨h1, h2⟩
    · exact za h
    · exact zr h
    · exact zb h
    · rcases z with z | z
      · exact h1 z
      · exact h2 z
  exact br_c (fun z8 => (no (Or.inl z8)).elim) (fun z8 => ⟨pk_in B 6 hB, br_c (fun z7 => (no (Or.inr z7)).elim) (fun _ => H)⟩)
end
end
section
section
variable {kn ws : Int32} {a1 a2 a3 a4 a5 a6 a7 a8 a9 a10 a11 : Nat → Int32}
/-- the turn of loop 61 for line l: forward (answer r1, labels b7 b8 b9), then back in vain -/
theorem cp_61 {post : St2 → Prop} {J : Int32 → Int32 → Int32 → Int32 → Int32 → (Nat → Int32) → (Nat → Int32) → (Nat → Int32) → (Nat → Int32) → (Nat → Int32) → (Nat → Int32) → (Nat → Int32) → (Nat → Int32) → (Nat → Int32) → (Nat → Int32) → (Nat → Int32) → Prop}
    {x2 : Int32} {n : Nat} (x1 c r1 : Int32) (l : Nat) (hl : l < 4) (b7 b8 b9 : Nat → Int32)
    (hf : ∀ Q : Int32 → St2 → Prop, Q r1 (nI 2, kn, ws, a1, a2, a3, a4, a5, a6, b7, b8, b9, a10, a11) → wpX_stretch Q (nI 2, kn, ws, a1, a2, a3, a4, a5, a6, a7, a8, a9, a10, a11) (nI l) 0)
    (hb : ∀ Q : Int32 → St2 → Prop, Q 0 (nI 2, kn, ws, a1, a2, a3, a4, a5, a6, b7, b8, b9, a10, a11) → wpX_stretch Q (nI 2, kn, ws, a1, a2, a3, a4, a5, a6, b7, b8, b9, a10, a11) (nI l) 1)
    (hc : (r1 = 0 ∧ c = x1 ∧ (x1 = 0 ∨ x1 = 1)) ∨ (r1 = 1 ∧ c = 1))
    (H : wX_findLongest_61 post J x2 n c (nI (l + 1)) (nI 2) kn ws a1 a2 a3 a4 a5 a6 b7 b8 b9 a10 a11) :
    wX_findLongest_61 post J x2 (n + 1) x1 (nI l) (nI 2) kn ws a1 a2 a3 a4 a5 a6 a7 a8 a9 a10 a11 := by
  have K : ∀ z : Int32, ((z = 0 ∧ c = 0) ∨ (z = 1 ∧ c = 1)) → wX_findLongest_89 post J (wX_findLongest_61 post J x2 n) x2 (nI l) z (nI 2) kn ws a1 a2 a3 a4 a5 a6 b7 b8 b9 a10 a11 := by
    intro z hz
    unfold wX_findLongest_89
    refine hb _ ?_
    rcases hz with ⟨h1, h2⟩ | ⟨h1, h2⟩
    · rw [h2] at H
      exact br_t rfl (br_t h1 (nm_r (nI_1 l) H))
    · rw [h2] at H
      exact br_t rfl (br_f (by rw [h1]; exact cp_10) (nm_r (nI_1 l) H))
  refine pk_le 4 l (fun z => absurd z (by omega)) (fun _ => hf _ ?_) (by decide)
  rcases hc with ⟨h1, h2, h3⟩ | ⟨h1, h2⟩
  · refine br_t h1 ?_
    rcases h3 with h3 | h3
    · exact br_t h3 (K 0 (Or.inl ⟨rfl, by rw [h2, h3]⟩))
    · exact br_f (by rw [h3]; exact cp_10) (K 1 (Or.inr ⟨rfl, by rw [h2, h3]⟩))
  · exact br_f (by rw [h1]; exact cp_10) (K 1 (Or.inr ⟨rfl, h2⟩))
/-- plain: lengths forward and back -/
theorem cp_nf {u v : Nat} (h : v ≤ u) (hu : u < 2 ^ 30) : ¬ nI u < nI v := nI_nlt h (by omega)
theorem cp_nb {t m s : Nat} (h : m ≤ s) (ht : t + m < 2 ^ 30) (hs : s < 2 ^ 30) : ¬ nI t < nI (t + m) + (-(nI s)) := by
  rw [← Int32.sub_eq_add_neg, Int32.lt_iff_toInt_lt, pk_sub_toInt ht hs, nI_toInt (by omega)]
  omega
/-- job j goes from A to B; its slow line (2 j) is S long with p wide and f on it, its fast one F long with g on it; the line that is taken is k, M long -/
def cp_J (j A B S F p f g k M : Nat) (a1 a2 a3 a4 a5 a6 : Nat → Int32) : Prop :=
  a1 j = nI A ∧ a2 j = nI B ∧ a3 j = nI S ∧ a4 j = nI F ∧ a5 j = nI p ∧ a6 (2 * j) = nI f ∧ a6 (2 * j + 1) = nI g ∧
  j < 2 ∧ A < 6 ∧ B < 6 ∧ B ≠ 0 ∧ A ≠ B ∧ F ≤ S ∧ S ≤ 9 ∧ p ≤ 20 ∧ ((f < p ∧ k = 2 * j ∧ M = S) ∨ (f = p ∧ k = 2 * j + 1 ∧ M = F)) ∧ (A = 0 ∨ g = 0 ∨ f = p)
theorem cp_e0 {α : Type} {u v : Nat → α} {j : Nat} : (if (2 * j) % 2 = 0 then u ((2 * j) / 2) else v ((2 * j) / 2)) = u j := by
  rw [if_pos (by omega), show (2 * j) / 2 = j by omega]
theorem cp_e1 {α : Type} {u v : Nat → α} {j : Nat} : (if (2 * j + 1) % 2 = 0 then u ((2 * j + 1) / 2) else v ((2 * j + 1) / 2)) = v j := by
  rw [if_neg (by omega), show (2 * j + 1) / 2 = j by omega]
theorem cp_r0 {j p f : Nat} (h5 : a5 j = nI p) (h6 : a6 (2 * j) = nI f) (hf : f ≤ p) : (if (2 * j) % 2 = 0 then a5 ((2 * j) / 2) - a6 (2 * j) else 1000000) = nI (p - f) := by
  rw [if_pos (by omega), show (2 * j) / 2 = j by omega, h5, h6, pk_sub hf]
theorem cp_r1 {j : Nat} : (if (2 * j + 1) % 2 = 0 then a5 ((2 * j + 1) / 2) - a6 (2 * j + 1) else 1000000) = nI 1000000 := by
  rw [if_neg (by omega)]
  rfl
/-- the first round over a job's two lines: B gets its label -/
theorem cp_p1 {post : St2 → Prop} {J : Int32 → Int32 → Int32 → Int32 → Int32 → (Nat → Int32) → (Nat → Int32) → (Nat → Int32) → (Nat → Int32) → (Nat → Int32) → (Nat → Int32) → (Nat → Int32) → (Nat → Int32) → (Nat → Int32) → (Nat → Int32) → (Nat → Int32) → Prop}
    {x2 x1 : Int32} {n j A B S F p f g k M LA : Nat} (hj : cp_J j A B S F p f g k M a1 a2 a3 a4 a5 a6) (hx : x1 = 0 ∨ x1 = 1) (hL : LA ≤ 100)
    (hA8 : a8 A = 1) (hA7 : a7 A = nI LA) (hB8 : a8 B = 0)
    (H : wX_findLongest_61 post J x2 n 1 (nI (2 * j + 2)) (nI 2) kn ws a1 a2 a3 a4 a5 a6 (upd a7 B (nI (LA + M))) (upd a8 B 1) (upd a9 B (nI k)) a10 a11) :
    wX_findLongest_61 post J x2 (n + 2) x1 (nI (2 * j)) (nI 2) kn ws a1 a2 a3 a4 a5 a6 a7 a8 a9 a10 a11 := by
  obtain ⟨h1, h2, h3, h4, h5, h6, h6', jj, hA, hB, hB0, hAB, hFS, hS, hp, hk, hg⟩ := hj
  have d0 : (2 * j) / 2 = j := by omega
  have d1 : (2 * j + 1) / 2 = j := by omega
  have u8 : upd a8 B 1 B = 1 := pk_us
  have u7 : ∀ v, upd a7 B v B = v := fun v => pk_us
  have v8 : upd a8 B 1 A = 1 := by rw [pk_un hAB]; exact hA8
  have v7 : ∀ v, upd a7 B v A = nI LA := fun v => by rw [pk_un hAB]; exact hA7
  rcases hk with ⟨hfp, hk, hM⟩ | ⟨hfp, hk, hM⟩
  · subst hk hM
    refine cp_61 x1 1 1 (2 * j) (by omega) (upd a7 B (nI (LA + M))) (upd a8 B 1) (upd a9 B (nI (2 * j))) (fun Q hQ => ?_) (fun Q hQ => ?_) (Or.inr ⟨rfl, rfl⟩) ?_
    · refine cp_sf1 (2 * j) A B (nI M) (nI (p - f)) (by omega) hA hB (by rw [d0]; exact h1) (by rw [d0]; exact h2) (cp_e0.trans h3) (cp_r0 h5 h6 (by omega)) (by rw [hA8]; exact cp_10) (nI_ne0 (by omega) (by omega)) hB0 hB8 ?_
      rw [hA7, nI_add]
      exact hQ
    · refine cp_sb0 (2 * j) B A (nI M) (by omega) hB hA (by rw [d0]; exact h2) (by rw [d0]; exact h1) (cp_e0.trans h3) (Or.inr (Or.inr (Or.inr ⟨by rw [v8]; exact cp_10, ?_⟩))) hQ
      rw [u7, v7]
      exact cp_nb (Nat.le_refl M) (by omega) (by omega)
    refine cp_61 1 1 0 (2 * j + 1) (by omega) (upd a7 B (nI (LA + M))) (upd a8 B 1) (upd a9 B (nI (2 * j))) (fun Q hQ => ?_) (fun Q hQ => ?_) (Or.inl ⟨rfl, rfl, Or.inr rfl⟩) H
    · refine cp_sf0 (2 * j + 1) A B (nI F) (nI 1000000) (by omega) hA hB (by rw [d1]; exact h1) (by rw [d1]; exact h2) (cp_e1.trans h4) cp_r1 (Or.inr ⟨by rw [u8]; exact cp_10, ?_⟩) hQ
      rw [u7, v7, nI_add]
      exact cp_nf (by omega) (by omega)
    · refine cp_sb0 (2 * j + 1) B A (nI F) (by omega) hB hA (by rw [d1]; exact h2) (by rw [d1]; exact h1) (cp_e1.trans h4) (Or.inr ?_) hQ
      rcases hg with g | g | g
      · exact Or.inr (Or.inl g)
      · exact Or.inl (by rw [h6', g]; rfl)
      · omega
  · subst hk hM
    refine cp_61 x1 x1 0 (2 * j) (by omega) a7 a8 a9 (fun Q hQ => ?_) (fun Q hQ => ?_) (Or.inl ⟨rfl, rfl, hx⟩) ?_
    · refine cp_sf0 (2 * j) A B (nI S) (nI (p - f)) (by omega) hA hB (by rw [d0]; exact h1) (by rw [d0]; exact h2) (cp_e0.trans h3) (cp_r0 h5 h6 (by omega)) (Or.inl ?_) hQ
      rw [show p - f = 0 by omega]
      rfl
    · exact cp_sb0 (2 * j) B A (nI S) (by omega) hB hA (by rw [d0]; exact h2) (by rw [d0]; exact h1) (cp_e0.trans h3) (Or.inl hB8) hQ
    refine cp_61 x1 1 1 (2 * j + 1) (by omega) (upd a7 B (nI (LA + M))) (upd a8 B 1) (upd a9 B (nI (2 * j + 1))) (fun Q hQ => ?_) (fun Q hQ => ?_) (Or.inr ⟨rfl, rfl⟩) H
    · refine cp_sf1 (2 * j + 1) A B (nI M) (nI 1000000) (by omega) hA hB (by rw [d1]; exact h1) (by rw [d1]; exact h2) (cp_e1.trans h4) cp_r1 (by rw [hA8]; exact cp_10) (nI_ne0 (by omega) (by omega)) hB0 hB8 ?_
      rw [hA7, nI_add]
      exact hQ
    · refine cp_sb0 (2 * j + 1) B A (nI M) (by omega) hB hA (by rw [d1]; exact h2) (by rw [d1]; exact h1) (cp_e1.trans h4) (Or.inr (Or.inr (Or.inr ⟨by rw [v8]; exact cp_10, ?_⟩))) hQ
      rw [u7, v7]
      exact cp_nb (Nat.le_refl M) (by omega) (by omega)
/-- a later round over a job's two lines: nothing changes -/
theorem cp_p2 {post : St2 → Prop} {J : Int32 → Int32 → Int32 → Int32 → Int32 → (Nat → Int32) → (Nat → Int32) → (Nat → Int32) → (Nat → Int32) → (Nat → Int32) → (Nat → Int32) → (Nat → Int32) → (Nat → Int32) → (Nat → Int32) → (Nat → Int32) → (Nat → Int32) → Prop}
    {x2 : Int32} {n j A B S F p f g k M LA : Nat} (hj : cp_J j A B S F p f g k M a1 a2 a3 a4 a5 a6) (hL : LA ≤ 100)
    (hA8 : a8 A = 1) (hA7 : a7 A = nI LA) (hB8 : a8 B = 1) (hB7 : a7 B = nI (LA + M))
    (H : wX_findLongest_61 post J x2 n 0 (nI (2 * j + 2)) (nI 2) kn ws a1 a2 a3 a4 a5 a6 a7 a8 a9 a10 a11) :
    wX_findLongest_61 post J x2 (n + 2) 0 (nI (2 * j)) (nI 2) kn ws a1 a2 a3 a4 a5 a6 a7 a8 a9 a10 a11 := by
  obtain ⟨h1, h2, h3, h4, h5, h6, h6', jj, hA, hB, hB0, hAB, hFS, hS, hp, hk, hg⟩ := hj
  have d0 : (2 * j) / 2 = j := by omega
  have d1 : (2 * j + 1) / 2 = j := by omega
  have hMF : F ≤ M := by omega
  have hMS : M ≤ S := by omega
  refine cp_61 0 0 0 (2 * j) (by omega) a7 a8 a9 (fun Q hQ => ?_) (fun Q hQ => ?_) (Or.inl ⟨rfl, rfl, Or.inl rfl⟩) ?_
  · refine cp_sf0 (2 * j) A B (nI S) (nI (p - f)) (by omega) hA hB (by rw [d0]; exact h1) (by rw [d0]; exact h2) (cp_e0.trans h3) (cp_r0 h5 h6 (by omega)) ?_ hQ
    rcases hk with ⟨hfp, _, hM⟩ | ⟨hfp, _, hM⟩
    · refine Or.inr ⟨by rw [hB8]; exact cp_10, ?_⟩
      rw [hB7, hA7, nI_add]
      exact cp_nf (by omega) (by omega)
    · refine Or.inl ?_
      rw [show p - f = 0 by omega]
      rfl
  · refine cp_sb0 (2 * j) B A (nI S) (by omega) hB hA (by rw [d0]; exact h2) (by rw [d0]; exact h1) (cp_e0.trans h3) (Or.inr (Or.inr (Or.inr ⟨by rw [hA8]; exact cp_10, ?_⟩))) hQ
    rw [hA7, hB7]
    exact cp_nb hMS (by omega) (by omega)
  refine cp_61 0 0 0 (2 * j + 1) (by omega) a7 a8 a9 (fun Q hQ => ?_) (fun Q hQ => ?_) (Or.inl ⟨rfl, rfl, Or.inl rfl⟩) H
  · refine cp_sf0 (2 * j + 1) A B (nI F) (nI 1000000) (by omega) hA hB (by rw [d1]; exact h1) (by rw [d1]; exact h2) (cp_e1.trans h4) cp_r1 (Or.inr ⟨by rw [hB8]; exact cp_10, ?_⟩) hQ
    rw [hB7, hA7, nI_add]
    exact cp_nf (by omega) (by omega)
  · refine cp_sb0 (2 * j + 1) B A (nI F) (by omega) hB hA (by rw [d1]; exact h2) (by rw [d1]; exact h1) (cp_e1.trans h4) (Or.inr ?_) hQ
    rcases hg with g | g | g
    · exact Or.inr (Or.inl g)
    · exact Or.inl (by rw [h6', g]; rfl)
    · refine Or.inr (Or.inr ⟨by rw [hA8]; exact cp_10, ?_⟩)
      rw [hA7, hB7]
      exact cp_nb (by omega) (by omega) (by omega)
/-- the rounds: from fresh labels to settled ones -/
theorem cp_47 {post : St2 → Prop} {e S0 F0 S1 F1 p q f g f' g' k k' M M' : Nat} (hj0 : cp_J 0 0 e S0 F0 p f g k M a1 a2 a3 a4 a5 a6) (hj1 : cp_J 1 e 5 S1 F1 q f' g' k' M' a1 a2 a3 a4 a5 a6)
    (h80 : a8 0 = 1) (h70 : a7 0 = nI 0) (h8e : a8 e = 0) (h85 : a8 5 = 0)
    (H : ∀ b7 b8 b9 : Nat → Int32, b8 5 = 1 → b7 5 = nI (M + M') → b9 5 = nI k' → b9 e = nI k → post (nI 2, kn, ws, a1, a2, a3, a4, a5, a6, b7, b8, b9, a10, a11)) :
    ∃ fu, wX_findLongest_47 post fu 1 0 (nI 2) kn ws a1 a2 a3 a4 a5 a6 a7 a8 a9 a10 a11 := by
  have he0 : 0 ≠ e := hj0.2.2.2.2.2.2.2.2.2.2.2.1
  have he5 : e ≠ 5 := hj1.2.2.2.2.2.2.2.2.2.2.2.1
  have hM : M ≤ 9 := by
    obtain ⟨_, _, _, _, _, _, _, _, _, _, _, _, q1, q2, _, q3, _⟩ := hj0
    omega
  refine ⟨3, ?_⟩
  refine pk_le 6 0 (fun z => absurd z (by omega)) (fun _ => br_f cp_10 ⟨5, ?_⟩)
  refine cp_p1 (n := 3) (j := 0) (x1 := 0) (LA := 0) hj0 (Or.inl rfl) (by omega) h80 h70 h8e ?_
  rw [Nat.zero_add M]
  refine cp_p1 (n := 1) (j := 1) (x1 := 1) (LA := M) hj1 (Or.inr rfl) (by omega) pk_us pk_us (by rw [pk_un (Ne.symm he5)]; exact h85) ?_
  have w80 : upd (upd a8 e 1) 5 1 0 = 1 := by rw [pk_un (by omega), pk_un he0]; exact h80
  have w70 : upd (upd a7 e (nI M)) 5 (nI (M + M')) 0 = nI 0 := by rw [pk_un (by omega), pk_un he0]; exact h70
  have w8e : upd (upd a8 e 1) 5 1 e = 1 := by rw [pk_un he5, pk_us]
  have w7e : upd (upd a7 e (nI M)) 5 (nI (M + M')) e = nI M := by rw [pk_un he5, pk_us]
  refine pk_le 4 4 (fun _ => nm_r (nI_1 0) ?_) (fun z => absurd z (by omega)) (by decide)
  refine pk_le 6 1 (fun z => absurd z (by omega)) (fun _ => br_f cp_10 ⟨5, ?_⟩)
  refine cp_p2 (n := 3) (j := 0) (LA := 0) hj0 (by omega) w80 w70 w8e (by rw [Nat.zero_add]; exact w7e) ?_
  refine cp_p2 (n := 1) (j := 1) (LA := M) hj1 (by omega) w8e w7e pk_us pk_us ?_
  refine pk_le 4 4 (fun _ => nm_r (nI_1 1) ?_) (fun z => absurd z (by omega)) (by decide)
  exact pk_le 6 2 (fun z => absurd z (by omega)) (fun _ => br_t rfl (H _ _ _ pk_us pk_us pk_us (by rw [pk_un he5, pk_us])))
theorem cp_bo0 : vp_nar .boolean 0 = 0 := by decide
theorem cp_bo1 : vp_nar .boolean 1 = 1 := by decide
/-- findLongest as a whole -/
theorem cp_find {post : St2 → Prop} {e S0 F0 S1 F1 p q f g f' g' k k' M M' : Nat} (hj0 : cp_J 0 0 e S0 F0 p f g k M a1 a2 a3 a4 a5 a6) (hj1 : cp_J 1 e 5 S1 F1 q f' g' k' M' a1 a2 a3 a4 a5 a6)
    (H : ∀ b7 b8 b9 : Nat → Int32, b8 5 = 1 → b7 5 = nI (M + M') → b9 5 = nI k' → b9 e = nI k → post (nI 2, kn, ws, a1, a2, a3, a4, a5, a6, b7, b8, b9, a10, a11)) :
    wpX_findLongest post (nI 2, kn, ws, a1, a2, a3, a4, a5, a6, a7, a8, a9, a10, a11) := by
  have he0 : 0 ≠ e := hj0.2.2.2.2.2.2.2.2.2.2.2.1
  have he6 : e < 6 := hj0.2.2.2.2.2.2.2.2.2.1
  refine pk_loop (fun n i s => wX_findLongest_2 post (nI 2) kn ws n (nI i) a1 a2 a3 a4 a5 a6 s.1 s.2.1 s.2.2 a10 a11)
    (fun i (s : (Nat → Int32) × (Nat → Int32) × (Nat → Int32)) => ∀ j, j < i → s.1 j = 0 ∧ s.2.1 j = (if j = 0 then 1 else 0)) 6 0 (a7, a8, a9) (by omega) (fun j hj => absurd hj (by omega)) ?_ ?_
  · intro n s h
    refine pk_le 6 6 (fun _ => ?_) (fun z => absurd z (by omega))
    exact cp_47 hj0 hj1 ((h 0 (by omega)).2.trans (if_pos rfl)) (h 0 (by omega)).1 ((h e he6).2.trans (if_neg (Ne.symm he0))) ((h 5 (by omega)).2.trans (if_neg (by omega))) H
  · intro n i s hi h hw
    have ci : (nI i).toNatClampNeg = i := nI_clamp (by omega)
    have F : ∀ v : Int32, v = (if i = 0 then 1 else 0) → ∀ j, j < i + 1 → upd s.1 i 0 j = 0 ∧ upd s.2.1 i v j = (if j = 0 then 1 else 0) := by
      intro v hv j hj
      by_cases ej : j = i
      · rw [ej, pk_us, pk_us]
        exact ⟨rfl, hv⟩
      · rw [pk_un ej, pk_un ej]
        exact h j (by omega)
    have K : ∀ v : Int32, vp_nar .boolean v = v → v = (if i = 0 then 1 else 0) → wX_findLongest_22 post (wX_findLongest_2 post (nI 2) kn ws n) (nI i) v (nI i) (nI 2) kn ws a1 a2 a3 a4 a5 a6 s.1 s.2.1 s.2.2 a10 a11 := by
      intro v hb hv
      unfold wX_findLongest_22
      rw [ci, hb]
      exact ⟨pk_in i 6 hi, nm_e ⟨pk_in i 6 hi, nm_e ⟨pk_in i 6 hi, nm_e (nm_r (nI_1 i) (hw (upd s.1 i 0, upd s.2.1 i v, upd s.2.2 i (-1)) (F v hv)))⟩⟩⟩
    exact pk_le 6 i (fun z => absurd z (by omega)) (fun _ => pk_eq i 0 (fun z => K 1 cp_bo1 (by rw [if_pos z])) (fun z => K 0 cp_bo0 (by rw [if_neg z])))
end
end
section
section
variable {jb kn ws : Int32} {a1 a2 a3 a4 a5 a6 a7 a8 a9 a10 a11 : Nat → Int32}
/-- one step of widthOfWay back along line l, with room r -/
theorem cp_w7 {post : Int32 → Prop} {n : Nat} (wd ev st l r nx : Nat) (hs : st < 6) (h0 : ev ≠ 0) (h6 : ev < 6) (hl : l < 14) (hw : wd ≤ 1000000) (hr : r ≤ 1000000)
    (h9 : a9 ev = nI l) (er : (if l % 2 = 0 then a5 (l / 2) - a6 l else 1000000) = nI r) (en : a1 (l / 2) = nI nx)
    (H : wX_widthOfWay_7 post jb kn ws a1 a2 a3 a4 a5 a6 a7 a8 a9 a10 a11 n (nI (min wd r)) (nI nx) (nI (st + 1))) :
    wX_widthOfWay_7 post jb kn ws a1 a2 a3 a4 a5 a6 a7 a8 a9 a10 a11 (n + 1) (nI wd) (nI ev) (nI st) := by
  have ca : (nI ev).toNatClampNeg = ev := nI_clamp (by omega)
  have K : wX_widthOfWay_82 post (wX_widthOfWay_7 post jb kn ws a1 a2 a3 a4 a5 a6 a7 a8 a9 a10 a11 n) (nI st) 0 (nI l) (nI (min wd r)) jb kn ws a1 a2 a3 a4 a5 a6 a7 a8 a9 a10 a11 := by
    refine br_t rfl ⟨cp_20, pk_in (l / 2) 7 (by omega) (cp_job hl), nm_r (e' := nI nx) ?_ (nm_r (nI_1 st) H)⟩
    rw [cp_jc hl]
    exact en
  refine pk_le 6 st (fun z => absurd z (by omega)) (fun _ => pk_eq ev 0 (fun z => absurd z h0) (fun _ => ⟨pk_in ev 6 h6, ?_⟩))
  rw [ca, h9]
  refine pk_lt l 28 (fun _ => ?_) (fun z => absurd z (by omega))
  refine br_t rfl ⟨pk_in ev 6 h6, ?_⟩
  rw [ca, h9]
  unfold wX_widthOfWay_58
  refine cp_room0 l hl er ?_
  refine pk_le wd r (fun z => ?_) (fun z => ?_)
  · rw [Nat.min_eq_left z] at K
    exact K
  · rw [Nat.min_eq_right (by omega)] at K
    exact K
/-- one step of send back along line l -/
theorem cp_s4 {post : St2 → Prop} {am : Int32} {n : Nat} (ev st l nx : Nat) (hs : st < 6) (h0 : ev ≠ 0) (h6 : ev < 6) (hl : l < 14)
    (h9 : a9 ev = nI l) (en : a1 (l / 2) = nI nx)
    (H : wX_send_4 post am jb kn ws n (nI nx) (nI (st + 1)) a1 a2 a3 a4 a5 (upd a6 l (a6 l + am)) a7 a8 a9 a10 a11) :
    wX_send_4 post am jb kn ws (n + 1) (nI ev) (nI st) a1 a2 a3 a4 a5 a6 a7 a8 a9 a10 a11 := by
  have ca : (nI ev).toNatClampNeg = ev := nI_clamp (by omega)
  have cl : (nI l).toNatClampNeg = l := nI_clamp (by omega)
  refine pk_le 6 st (fun z => absurd z (by omega)) (fun _ => pk_eq ev 0 (fun z => absurd z h0) (fun _ => ⟨pk_in ev 6 h6, ?_⟩))
  rw [ca, h9]
  refine pk_lt l 28 (fun _ => ?_) (fun z => absurd z (by omega))
  refine br_t rfl ⟨pk_in ev 6 h6, ?_⟩
  rw [ca, h9]
  refine ⟨pk_in l 14 hl, br_t rfl ?_⟩
  rw [cl]
  refine ⟨pk_in l 14 hl, ?_⟩
  rw [cl]
  refine nm_e (br_t rfl ⟨cp_20, pk_in (l / 2) 7 (by omega) (cp_job hl), nm_r (e' := nI nx) ?_ (nm_r (nI_1 st) H)⟩)
  rw [cp_jc hl]
  exact en
/-- the two jobs of the law -/
def cp_G (a b x y e : Nat) (a1 a2 a3 a4 a5 : Nat → Int32) : Prop :=
  (a1 0 = nI 0 ∧ a1 1 = nI e ∧ a2 0 = nI e ∧ a2 1 = nI 5 ∧ a3 0 = nI (3 + a) ∧ a3 1 = nI (4 + b) ∧ a4 0 = nI 3 ∧ a4 1 = nI 4 ∧ a5 0 = nI x ∧ a5 1 = nI y) ∧
  a ≤ 3 ∧ b ≤ 3 ∧ 1 ≤ x ∧ x ≤ 20 ∧ 1 ≤ y ∧ y ≤ 20 ∧ 1 ≤ e ∧ e ≤ 4
theorem cp_G0 {a b x y e f g k M : Nat} (hG : cp_G a b x y e a1 a2 a3 a4 a5) (h60 : a6 0 = nI f) (h61 : a6 1 = nI g)
    (hk : (f < x ∧ k = 0 ∧ M = 3 + a) ∨ (f = x ∧ k = 1 ∧ M = 3)) : cp_J 0 0 e (3 + a) 3 x f g k M a1 a2 a3 a4 a5 a6 := by
  obtain ⟨⟨q1, q2, q3, q4, q5, q6, q7, q8, q9, q10⟩, ha, hb, hx, hx', hy, hy', he, he'⟩ := hG
  exact ⟨q1, q3, q5, q7, q9, h60, h61, by omega, by omega, by omega, by omega, by omega, by omega, by omega, by omega, hk, Or.inl rfl⟩
theorem cp_G1 {a b x y e f g k M : Nat} (hG : cp_G a b x y e a1 a2 a3 a4 a5) (h62 : a6 2 = nI f) (h63 : a6 3 = nI g)
    (hk : (f < y ∧ k = 2 ∧ M = 4 + b) ∨ (f = y ∧ k = 3 ∧ M = 4)) (hg : g = 0 ∨ f = y) : cp_J 1 e 5 (4 + b) 4 y f g k M a1 a2 a3 a4 a5 a6 := by
  obtain ⟨⟨q1, q2, q3, q4, q5, q6, q7, q8, q9, q10⟩, ha, hb, hx, hx', hy, hy', he, he'⟩ := hG
  exact ⟨q2, q4, q6, q8, q10, h62, h63, by omega, by omega, by omega, by omega, by omega, by omega, by omega, by omega, hk, Or.inr hg⟩
/-- the room on the line that is taken -/
theorem cp_rm {a5 a6 : Nat → Int32} {j p f k r : Nat} (h5 : a5 j = nI p) (h6 : a6 (2 * j) = nI f) (hk : (f < p ∧ k = 2 * j ∧ r = p - f) ∨ (f = p ∧ k = 2 * j + 1 ∧ r = 1000000)) :
    (if k % 2 = 0 then a5 (k / 2) - a6 k else 1000000) = nI r := by
  rcases hk with ⟨h, rfl, rfl⟩ | ⟨h, rfl, rfl⟩
  · exact cp_r0 h5 h6 (by omega)
  · exact cp_r1
end
end
section
section
variable {kn ws : Int32} {a1 a2 a3 a4 a5 a6 a7 a8 a9 a10 a11 : Nat → Int32}
/-- one turn of sendAll's loop -/
theorem cp_it {post : St2 → Prop} {a b x y e n f g f' g' k M k' M' r r' am w cnt : Nat} (hG : cp_G a b x y e a1 a2 a3 a4 a5)
    (h60 : a6 0 = nI f) (h61 : a6 1 = nI g) (h62 : a6 2 = nI f') (h63 : a6 3 = nI g')
    (hk : (f < x ∧ k = 0 ∧ M = 3 + a ∧ r = x - f) ∨ (f = x ∧ k = 1 ∧ M = 3 ∧ r = 1000000))
    (hk' : (f' < y ∧ k' = 2 ∧ M' = 4 + b ∧ r' = y - f') ∨ (f' = y ∧ k' = 3 ∧ M' = 4 ∧ r' = 1000000))
    (hg : g' = 0 ∨ f' = y) (ham : am = min (min 1000000 r') r) (hc : cnt < 149) (hw : w < 150)
    (H : ∀ b6 b7 b8 b9 : Nat → Int32, b6 0 = nI (if k = 0 then f + am else f) → b6 1 = nI (if k = 1 then g + am else g) → b6 2 = nI (if k' = 2 then f' + am else f') → b6 3 = nI (if k' = 3 then g' + am else g') →
      wX_sendAll_43 post n (if 1000000 ≤ am then 0 else 1) (nI (cnt + 1)) (nI 2) kn (nI (w + 1)) a1 a2 a3 a4 a5 b6 b7 b8 b9 (upd a10 w (nI (M + M'))) (upd a11 w (nI am))) :
    wX_sendAll_43 post (n + 1) 1 (nI cnt) (nI 2) kn (nI w) a1 a2 a3 a4 a5 a6 a7 a8 a9 a10 a11 := by
  have hj0 : cp_J 0 0 e (3 + a) 3 x f g k M a1 a2 a3 a4 a5 a6 := cp_G0 hG h60 h61 (by omega)
  have hj1 : cp_J 1 e 5 (4 + b) 4 y f' g' k' M' a1 a2 a3 a4 a5 a6 := cp_G1 hG h62 h63 (by omega) hg
  obtain ⟨⟨q1, q2, q3, q4, q5, q6, q7, q8, q9, q10⟩, ha, hb, hx, hx', hy, hy', he, he'⟩ := hG
  have e0 : (if k % 2 = 0 then a5 (k / 2) - a6 k else 1000000) = nI r := cp_rm (j := 0) q9 h60 (by omega)
  have e1 : (if k' % 2 = 0 then a5 (k' / 2) - a6 k' else 1000000) = nI r' := cp_rm (j := 1) q10 h62 (by omega)
  have n0 : a1 (k / 2) = nI 0 := by rw [show k / 2 = 0 by omega]; exact q1
  have n1 : a1 (k' / 2) = nI e := by rw [show k' / 2 = 1 by omega]; exact q2
  have hamr : am ≤ 1000000 := by omega
  have cw : (nI w).toNatClampNeg = w := nI_clamp (by omega)
  refine pk_le 149 cnt (fun z => absurd z (by omega)) (fun _ => br_f cp_10 ?_)
  refine cp_find hj0 hj1 (fun b7 b8 b9 h8 h7 h9 h9' => ?_)
  refine nm_r (e' := 1) h8 (br_f cp_10 ?_)
  -- the width
  refine ⟨3, ?_⟩
  refine cp_w7 (n := 2) 1000000 5 0 k' r' e (by omega) (by omega) (by omega) (by omega) (by omega) (by omega) h9 e1 n1 ?_
  refine cp_w7 (n := 1) (min 1000000 r') e 1 k r 0 (by omega) (by omega) (by omega) (by omega) (by omega) (by omega) h9' e0 n0 ?_
  refine pk_le 6 2 (fun z => absurd z (by omega)) (fun _ => br_t rfl ?_)
  rw [← ham]
  refine ⟨pk_in w 150 hw, nm_r (e' := upd a10 w (nI (M + M'))) (by rw [cw, h7]) ⟨pk_in w 150 hw, nm_r (e' := upd a11 w (nI am)) (by rw [cw]) (nm_r (nI_1 w) ?_)⟩⟩
  -- the flow is sent
  have K : ∀ z : Int32, z = (if 1000000 ≤ am then 0 else 1) → wX_sendAll_120 post (wX_sendAll_43 post n) (nI cnt) (nI am) z (nI 2) kn (nI (w + 1)) a1 a2 a3 a4 a5 a6 b7 b8 b9 (upd a10 w (nI (M + M'))) (upd a11 w (nI am)) := by
    intro z hz
    unfold wX_sendAll_120
    refine ⟨3, ?_⟩
    refine cp_s4 (n := 2) 5 0 k' e (by omega) (by omega) (by omega) (by omega) h9 n1 ?_
    refine cp_s4 (n := 1) e 1 k 0 (by omega) (by omega) (by omega) (by omega) h9' n0 ?_
    refine pk_le 6 2 (fun z => absurd z (by omega)) (fun _ => br_t rfl ?_)
    refine nm_r (nI_1 cnt) ?_
    rw [hz]
    refine H _ b7 b8 b9 ?_ ?_ ?_ ?_
    · rcases hk with ⟨_, rfl, _, _⟩ | ⟨_, rfl, _, _⟩
      · rw [pk_us, pk_un (by omega), h60, nI_add, if_pos rfl]
      · rw [pk_un (by omega), pk_un (by omega), h60, if_neg (by omega)]
    · rcases hk with ⟨_, rfl, _, _⟩ | ⟨_, rfl, _, _⟩
      · rw [pk_un (by omega), pk_un (by omega), h61, if_neg (by omega)]
      · rw [pk_us, pk_un (by omega), h61, nI_add, if_pos rfl]
    · rcases hk' with ⟨_, rfl, _, _⟩ | ⟨_, rfl, _, _⟩
      · rw [pk_un (by omega), pk_us, h62, nI_add, if_pos rfl]
      · rw [pk_un (by omega), pk_un (by omega), h62, if_neg (by omega)]
    · rcases hk' with ⟨_, rfl, _, _⟩ | ⟨_, rfl, _, _⟩
      · rw [pk_un (by omega), pk_un (by omega), h63, if_neg (by omega)]
      · rw [pk_un (by omega), pk_us, h63, nI_add, if_pos rfl]
  exact pk_le 1000000 am (fun z => K 0 (by rw [if_pos z])) (fun z => K 1 (by rw [if_neg (by omega)]))
/-- the ways at the end -/
def cp_D (a b x y w : Nat) (a10 a11 : Nat → Int32) : Prop :=
  a10 0 = nI (7 + a + b) ∧ a11 0 = nI (min x y) ∧
  ((x = y ∧ w = 2 ∧ a10 1 = nI 7 ∧ a11 1 = nI 1000000) ∨
   (x ≠ y ∧ w = 3 ∧ a10 1 = nI (7 + (if x < y then b else a)) ∧ a11 1 = nI (max x y - min x y) ∧ a10 2 = nI 7 ∧ a11 2 = nI 1000000))
theorem cp_43 {post : St2 → Prop} {a b x y e : Nat} (hG : cp_G a b x y e a1 a2 a3 a4 a5)
    (h60 : a6 0 = nI 0) (h61 : a6 1 = nI 0) (h62 : a6 2 = nI 0) (h63 : a6 3 = nI 0)
    (H : ∀ (w : Nat) (b6 b7 b8 b9 b10 b11 : Nat → Int32), cp_D a b x y w b10 b11 → post (nI 2, kn, nI w, a1, a2, a3, a4, a5, b6, b7, b8, b9, b10, b11)) :
    ∃ fu, wX_sendAll_43 post fu 1 0 (nI 2) kn (nI 0) a1 a2 a3 a4 a5 a6 a7 a8 a9 a10 a11 := by
  obtain ⟨ha, hb, hx, hx', hy, hy', he, he'⟩ := hG.2
  rcases Nat.lt_trichotomy x y with h | h | h
  · refine ⟨4, ?_⟩
    refine cp_it (n := 3) (cnt := 0) (w := 0) (k := 0) (M := 3 + a) (r := x) (k' := 2) (M' := 4 + b) (r' := y) (am := x) hG h60 h61 h62 h63 (by omega) (by omega) (by omega) (by omega) (by omega) (by omega) (fun b6 b7 b8 b9 g0 g1 g2 g3 => ?_)
    rw [if_neg (by omega)]
    refine cp_it (n := 2) (cnt := 1) (w := 1) (f := x) (g := 0) (f' := x) (g' := 0) (k := 1) (M := 3) (r := 1000000) (k' := 2) (M' := 4 + b) (r' := y - x) (am := y - x) hG (by simpa using g0) (by simpa using g1) (by simpa using g2) (by simpa using g3) (by omega) (by omega) (by omega) (by omega) (by omega) (by omega) (fun c6 c7 c8 c9 i0 i1 i2 i3 => ?_)
    rw [if_neg (by omega)]
    refine cp_it (n := 1) (cnt := 2) (w := 2) (f := x) (g := y - x) (f' := y) (g' := 0) (k := 1) (M := 3) (r := 1000000) (k' := 3) (M' := 4) (r' := 1000000) (am := 1000000) hG (by simpa using i0) (by simpa using i1) (by have t := i2; rw [if_pos rfl, show x + (y - x) = y by omega] at t; exact t) (by simpa using i3) (by omega) (by omega) (by omega) (by omega) (by omega) (by omega) (fun d6 d7 d8 d9 _ _ _ _ => ?_)
    rw [if_pos (by omega)]
    refine pk_le 149 3 (fun z => absurd z (by omega)) (fun _ => br_t rfl (H 3 _ _ _ _ _ _ ⟨?_, ?_, Or.inr ⟨by omega, rfl, ?_, ?_, ?_, ?_⟩⟩))
    · rw [pk_un (by omega), pk_un (by omega), pk_us, show 3 + a + (4 + b) = 7 + a + b by omega]
    · rw [pk_un (by omega), pk_un (by omega), pk_us, show min x y = x by omega]
    · rw [pk_un (by omega), pk_us, if_pos h, show 3 + (4 + b) = 7 + b by omega]
    · rw [pk_un (by omega), pk_us, show max x y - min x y = y - x by omega]
    · exact pk_us
    · exact pk_us
  · refine ⟨3, ?_⟩
    refine cp_it (n := 2) (cnt := 0) (w := 0) (k := 0) (M := 3 + a) (r := x) (k' := 2) (M' := 4 + b) (r' := y) (am := x) hG h60 h61 h62 h63 (by omega) (by omega) (by omega) (by omega) (by omega) (by omega) (fun b6 b7 b8 b9 g0 g1 g2 g3 => ?_)
    rw [if_neg (by omega)]
    refine cp_it (n := 1) (cnt := 1) (w := 1) (f := x) (g := 0) (f' := x) (g' := 0) (k := 1) (M := 3) (r := 1000000) (k' := 3) (M' := 4) (r' := 1000000) (am := 1000000) hG (by simpa using g0) (by simpa using g1) (by simpa using g2) (by simpa using g3) (by omega) (by omega) (by omega) (by omega) (by omega) (by omega) (fun d6 d7 d8 d9 _ _ _ _ => ?_)
    rw [if_pos (by omega)]
    refine pk_le 149 2 (fun z => absurd z (by omega)) (fun _ => br_t rfl (H 2 _ _ _ _ _ _ ⟨?_, ?_, Or.inl ⟨h, rfl, ?_, ?_⟩⟩))
    · rw [pk_un (by omega), pk_us, show 3 + a + (4 + b) = 7 + a + b by omega]
    · rw [pk_un (by omega), pk_us, show min x y = x by omega]
    · exact pk_us
    · exact pk_us
  · refine ⟨4, ?_⟩
    refine cp_it (n := 3) (cnt := 0) (w := 0) (k := 0) (M := 3 + a) (r := x) (k' := 2) (M' := 4 + b) (r' := y) (am := y) hG h60 h61 h62 h63 (by omega) (by omega) (by omega) (by omega) (by omega) (by omega) (fun b6 b7 b8 b9 g0 g1 g2 g3 => ?_)
    rw [if_neg (by omega)]
    refine cp_it (n := 2) (cnt := 1) (w := 1) (f := y) (g := 0) (f' := y) (g' := 0) (k := 0) (M := 3 + a) (r := x - y) (k' := 3) (M' := 4) (r' := 1000000) (am := x - y) hG (by simpa using g0) (by simpa using g1) (by simpa using g2) (by simpa using g3) (by omega) (by omega) (by omega) (by omega) (by omega) (by omega) (fun c6 c7 c8 c9 i0 i1 i2 i3 => ?_)
    rw [if_neg (by omega)]
    refine cp_it (n := 1) (cnt := 2) (w := 2) (f := x) (g := 0) (f' := y) (g' := x - y) (k := 1) (M := 3) (r := 1000000) (k' := 3) (M' := 4) (r' := 1000000) (am := 1000000) hG (by have t := i0; rw [if_pos rfl, show y + (x - y) = x by omega] at t; exact t) (by simpa using i1) (by simpa using i2) (by simpa using i3) (by omega) (by omega) (by omega) (by omega) (by omega) (by omega) (fun d6 d7 d8 d9 _ _ _ _ => ?_)
    rw [if_pos (by omega)]
    refine pk_le 149 3 (fun z => absurd z (by omega)) (fun _ => br_t rfl (H 3 _ _ _ _ _ _ ⟨?_, ?_, Or.inr ⟨by omega, rfl, ?_, ?_, ?_, ?_⟩⟩))
    · rw [pk_un (by omega), pk_un (by omega), pk_us, show 3 + a + (4 + b) = 7 + a + b by omega]
    · rw [pk_un (by omega), pk_un (by omega), pk_us, show min x y = y by omega]
    · rw [pk_un (by omega), pk_us, if_neg (by omega), show 3 + a + 4 = 7 + a by omega]
    · rw [pk_un (by omega), pk_us, show max x y - min x y = x - y by omega]
    · exact pk_us
    · exact pk_us
/-- sendAll as a whole: the first time -/
theorem cp_all {post : St2 → Prop} {a b x y e : Nat} (hG : cp_G a b x y e a1 a2 a3 a4 a5)
    (H : ∀ (w : Nat) (b6 b7 b8 b9 b10 b11 : Nat → Int32), cp_D a b x y w b10 b11 → post (nI 2, 1, nI w, a1, a2, a3, a4, a5, b6, b7, b8, b9, b10, b11)) :
    wpX_sendAll post (nI 2, 0, ws, a1, a2, a3, a4, a5, a6, a7, a8, a9, a10, a11) := by
  refine br_t rfl ?_
  refine pk_loop (fun n i s => wX_sendAll_20 post (nI 2) 1 0 n (nI i) a1 a2 a3 a4 a5 s a7 a8 a9 a10 a11) (fun i s => ∀ j, j < i → s j = nI 0) 14 0 a6 (by omega) (fun j hj => absurd hj (by omega)) ?_ ?_
  · intro n s h
    exact pk_le 14 14 (fun _ => cp_43 hG (h 0 (by omega)) (h 1 (by omega)) (h 2 (by omega)) (h 3 (by omega)) H) (fun z => absurd z (by omega))
  · intro n i s hi h hw
    refine pk_le 14 i (fun z => absurd z (by omega)) (fun _ => ⟨pk_in i 14 hi, nm_r (e' := upd s i (nI 0)) ?_ (nm_r (nI_1 i) (hw _ ?_))⟩)
    · rw [nI_clamp (by omega)]
      rfl
    · intro j hj
      by_cases ej : j = i
      · rw [ej, pk_us]
      · rw [pk_un ej]
        exact h j (by omega)
/-- and when all is known -/
theorem cp_kn {post : St2 → Prop} {jb : Int32} (H : post (jb, 1, ws, a1, a2, a3, a4, a5, a6, a7, a8, a9, a10, a11)) : wpX_sendAll post (jb, 1, ws, a1, a2, a3, a4, a5, a6, a7, a8, a9, a10, a11) := br_f cp_10 H
end
end
section
section
variable {jb kn ws : Int32} {a1 a2 a3 a4 a5 a6 a7 a8 a9 a10 a11 : Nat → Int32}
/-- one turn of costFor: way k, t long, am wide -/
theorem cp_c4 {post : Int32 → Prop} {n : Nat} (w k t am d sm : Nat) (hw : w ≤ 150) (hk : k < w) (ht : t ≤ 100) (hd : d ≤ 100) (ham : am ≤ 1000000)
    (h10 : a10 k = nI t) (h11 : a11 k = nI am)
    (H : (t ≤ d ∨ am < 1000000) → wX_costFor_4 post (nI d) jb kn (nI w) a1 a2 a3 a4 a5 a6 a7 a8 a9 a10 a11 n (nI (sm + am * (t - d))) (nI (k + 1)))
    (H' : d < t → 1000000 ≤ am → post (-1)) :
    wX_costFor_4 post (nI d) jb kn (nI w) a1 a2 a3 a4 a5 a6 a7 a8 a9 a10 a11 (n + 1) (nI sm) (nI k) := by
  have ck : (nI k).toNatClampNeg = k := nI_clamp (by omega)
  refine pk_le w k (fun z => absurd z (by omega)) (fun _ => ⟨pk_in k 150 (by omega), ?_⟩)
  rw [ck, h10]
  refine pk_le t d (fun z => nm_r (nI_1 k) ?_) (fun z => ⟨pk_in k 150 (by omega), ?_⟩)
  · have K := H (Or.inl z)
    rw [show t - d = 0 by omega, Nat.mul_zero, Nat.add_zero] at K
    exact K
  · rw [h11]
    refine pk_lt am 1000000 (fun z2 => ⟨pk_in k 150 (by omega), pk_in k 150 (by omega), nm_r (e' := nI (sm + am * (t - d))) ?_ (nm_r (nI_1 k) (H (Or.inr z2)))⟩) (fun z2 => H' z z2)
    rw [pk_sub (by omega), pk_mul, nI_add]
/-- what a deadline costs -/
def cp_v (a b x y d : Nat) : Nat := min x y * (7 + a + b - d) + (max x y - min x y) * (7 + (if x < y then b else a) - d)
theorem cp_cf {post : Int32 → Prop} {a b x y w d : Nat} (hD : cp_D a b x y w a10 a11) (ha : a ≤ 3) (hb : b ≤ 3) (hx : x ≤ 20) (hy : y ≤ 20) (hd : d ≤ 100)
    (H0 : d < 7 → post (-1)) (H1 : 7 ≤ d → post (nI (cp_v a b x y d))) : wpX_costFor post (jb, kn, nI w, a1, a2, a3, a4, a5, a6, a7, a8, a9, a10, a11) (nI d) := by
  obtain ⟨t0, m0, h⟩ := hD
  rcases h with ⟨hxy, hw, t1, m1⟩ | ⟨hxy, hw, t1, m1, t2, m2⟩
  · subst hw
    refine ⟨3, ?_⟩
    refine cp_c4 (n := 2) 2 0 (7 + a + b) (min x y) d 0 (by omega) (by omega) (by omega) hd (by omega) t0 m0 (fun _ => ?_) (fun _ z => absurd z (by omega))
    refine cp_c4 (n := 1) 2 1 7 1000000 d _ (by omega) (by omega) (by omega) hd (by omega) t1 m1 (fun z => ?_) (fun z _ => H0 z)
    refine pk_le 2 2 (fun _ => ?_) (fun z => absurd z (by omega))
    have h7 : 7 ≤ d := by omega
    have E : 0 + min x y * (7 + a + b - d) + 1000000 * (7 - d) = cp_v a b x y d := by
      unfold cp_v
      rw [show max x y - min x y = 0 by omega, Nat.zero_mul, show 7 - d = 0 by omega]
      omega
    rw [E]
    exact H1 h7
  · subst hw
    have hc : (if x < y then b else a) ≤ 3 := by split <;> omega
    refine ⟨4, ?_⟩
    refine cp_c4 (n := 3) 3 0 (7 + a + b) (min x y) d 0 (by omega) (by omega) (by omega) hd (by omega) t0 m0 (fun _ => ?_) (fun _ z => absurd z (by omega))
    refine cp_c4 (n := 2) 3 1 (7 + (if x < y then b else a)) (max x y - min x y) d _ (by omega) (by omega) (by omega) hd (by omega) t1 m1 (fun _ => ?_) (fun _ z => absurd z (by omega))
    refine cp_c4 (n := 1) 3 2 7 1000000 d _ (by omega) (by omega) (by omega) hd (by omega) t2 m2 (fun z => ?_) (fun z _ => H0 z)
    refine pk_le 3 3 (fun _ => ?_) (fun z => absurd z (by omega))
    have h7 : 7 ≤ d := by omega
    have E : 0 + min x y * (7 + a + b - d) + (max x y - min x y) * (7 + (if x < y then b else a) - d) + 1000000 * (7 - d) = cp_v a b x y d := by
      unfold cp_v
      rw [show 7 - d = 0 by omega]
      omega
    rw [E]
    exact H1 h7
/-- plain: the cost's size, and when it is nothing -/
theorem cp_v_le {a b x y d : Nat} (ha : a ≤ 3) (hb : b ≤ 3) (hx : x ≤ 20) (hy : y ≤ 20) : cp_v a b x y d ≤ 1000 := by
  have hc : (if x < y then b else a) ≤ 3 := by split <;> omega
  have h1 : min x y * (7 + a + b - d) ≤ 20 * 13 := Nat.mul_le_mul (by omega) (by omega)
  have h2 : (max x y - min x y) * (7 + (if x < y then b else a) - d) ≤ 20 * 10 := Nat.mul_le_mul (by omega) (by omega)
  unfold cp_v
  omega
theorem cp_v_0 {a b x y d : Nat} (hd : 7 + a + b ≤ d) : cp_v a b x y d = 0 := by
  have hc : (if x < y then b else a) ≤ a + b := by split <;> omega
  unfold cp_v
  rw [show 7 + a + b - d = 0 by omega, show 7 + (if x < y then b else a) - d = 0 by omega]
  rfl
theorem cp_v_pos {a b x y d : Nat} (hx : 1 ≤ x) (hy : 1 ≤ y) (hd : d < 7 + a + b) : 0 < cp_v a b x y d := by
  have h1 : 1 * 1 ≤ min x y * (7 + a + b - d) := Nat.mul_le_mul (by omega) (by omega)
  unfold cp_v
  omega
/-- plain: what the law says of the cost -/
theorem cp_v_lt {a b x y s : Nat} (h : x < y) (hs : s ≤ a + b) : cp_v a b x y (7 + a + b - s) = if a < s then a * x + (s - a) * y else s * x := by
  unfold cp_v
  rw [if_pos h, show min x y = x by omega, show max x y - x = y - x by omega, show 7 + a + b - (7 + a + b - s) = s by omega, show 7 + b - (7 + a + b - s) = s - a by omega]
  split
  · obtain ⟨u, rfl⟩ : ∃ u, s = a + u := ⟨s - a, by omega⟩
    obtain ⟨v, rfl⟩ : ∃ v, y = x + v := ⟨y - x, by omega⟩
    rw [show a + u - a = u by omega, show x + v - x = v by omega]
    simp only [Nat.mul_add, Nat.add_mul, Nat.mul_comm]
    omega
  · rw [show s - a = 0 by omega, Nat.mul_zero, Nat.add_zero, Nat.mul_comm]
theorem cp_v_gt {a b x y s : Nat} (h : y < x) (hs : s ≤ a + b) : cp_v a b x y (7 + a + b - s) = if b < s then b * y + (s - b) * x else s * y := by
  unfold cp_v
  rw [if_neg (by omega), show min x y = y by omega, show max x y - y = x - y by omega, show 7 + a + b - (7 + a + b - s) = s by omega, show 7 + a - (7 + a + b - s) = s - b by omega]
  split
  · obtain ⟨u, rfl⟩ : ∃ u, s = b + u := ⟨s - b, by omega⟩
    obtain ⟨v, rfl⟩ : ∃ v, x = y + v := ⟨x - y, by omega⟩
    rw [show b + u - b = u by omega, show y + v - y = v by omega]
    simp only [Nat.mul_add, Nat.add_mul, Nat.mul_comm]
    omega
  · rw [show s - b = 0 by omega, Nat.mul_zero, Nat.add_zero, Nat.mul_comm]
theorem cp_v_eq {a b x s : Nat} (hs : s ≤ a + b) : cp_v a b x x (7 + a + b - s) = s * x := by
  unfold cp_v
  rw [show min x x = x by omega, show max x x - x = 0 by omega, Nat.zero_mul, Nat.add_zero, show 7 + a + b - (7 + a + b - s) = s by omega, Nat.mul_comm]
theorem cp_v_7 {a b x y : Nat} : cp_v a b x y 7 = a * x + b * y := by
  have e7 : 7 = 7 + a + b - (a + b) := by omega
  rcases Nat.lt_trichotomy x y with h | h | h
  · rw [e7, cp_v_lt h (Nat.le_refl _)]
    split
    · rw [show a + b - a = b by omega]
    · have hb0 : b = 0 := by omega
      subst hb0
      simp
  · subst h
    rw [e7, cp_v_eq (Nat.le_refl _), Nat.add_mul]
  · rw [e7, cp_v_gt h (Nat.le_refl _)]
    split
    · rw [show a + b - b = a by omega, Nat.add_comm]
    · have ha0 : a = 0 := by omega
      subst ha0
      simp
end
end
section
section
variable {jb kn ws : Int32} {a1 a2 a3 a4 a5 a6 a7 a8 a9 a10 a11 : Nat → Int32}
/-- a job that fits is added -/
theorem cp_add {post : Int32 → St2 → Prop} (n A B s f p : Nat) (hn : n < 7) (hAB : A < B) (hB : B ≤ 5) (hf : f ≤ s) (hs : s ≤ 9) (hd : s - f ≤ 3) (hp : 1 ≤ p) (hp' : p ≤ 20)
    (H : post (nI (n + 1)) (nI (n + 1), 0, ws, upd a1 n (nI A), upd a2 n (nI B), upd a3 n (nI s), upd a4 n (nI f), upd a5 n (nI p), a6, a7, a8, a9, a10, a11)) :
    wpX_add post (nI n, kn, ws, a1, a2, a3, a4, a5, a6, a7, a8, a9, a10, a11) (nI A) (nI B) (nI s) (nI f) (nI p) := by
  refine pk_lt A 0 (fun z => absurd z (by omega)) (fun _ => pk_le B A (fun z => absurd z (by omega)) (fun _ => pk_lt 5 B (fun z => absurd z (by omega)) (fun _ => ?_)))
  refine pk_lt f 0 (fun z => absurd z (by omega)) (fun _ => pk_lt s f (fun z => absurd z (by omega)) (fun _ => pk_lt 9 s (fun z => absurd z (by omega)) (fun _ => pk_lt 3 (s - f) (fun z => absurd z (by omega)) (fun _ => ?_) rfl (pk_sub hf))))
  unfold wX_add_51
  rw [nI_clamp (show n < 2 ^ 31 by omega)]
  refine pk_le 7 n (fun z => absurd z (by omega)) (fun _ => br_f cp_10 (br_f cp_10 (pk_lt p 1 (fun z => absurd z (by omega)) (fun _ => pk_le p 20 (fun _ => ?_) (fun z => absurd z (by omega))))))
  exact ⟨pk_in n 7 hn, nm_e ⟨pk_in n 7 hn, nm_e ⟨pk_in n 7 hn, nm_e ⟨pk_in n 7 hn, nm_e ⟨pk_in n 7 hn, nm_e (nm_r (nI_1 n) H)⟩⟩⟩⟩⟩
theorem cp_Dw {a b x y w : Nat} (hD : cp_D a b x y w a10 a11) : 2 ≤ w ∧ w ≤ 3 ∧ a10 (w - 1) = nI 7 := by
  obtain ⟨_, _, h⟩ := hD
  rcases h with ⟨_, hw, t, _⟩ | ⟨_, hw, _, _, t, _⟩
  · subst hw
    exact ⟨by omega, by omega, t⟩
  · subst hw
    exact ⟨by omega, by omega, t⟩
theorem cp_slow {post : Int32 → St2 → Prop} {a b x y e : Nat} (hG : cp_G a b x y e a1 a2 a3 a4 a5)
    (H : ∀ (w : Nat) (b6 b7 b8 b9 b10 b11 : Nat → Int32), cp_D a b x y w b10 b11 → post (nI (7 + a + b)) (nI 2, 1, nI w, a1, a2, a3, a4, a5, b6, b7, b8, b9, b10, b11)) :
    wpX_slowest post (nI 2, 0, ws, a1, a2, a3, a4, a5, a6, a7, a8, a9, a10, a11) := by
  unfold wpX_slowest
  refine cp_all hG (fun w b6 b7 b8 b9 b10 b11 hD => ?_)
  have hw := cp_Dw hD
  refine br_f (nI_ne0 (by omega) (by omega)) ?_
  rw [hD.1]
  exact H w b6 b7 b8 b9 b10 b11 hD
theorem cp_fast {post : Int32 → St2 → Prop} {a b x y w : Nat} (hD : cp_D a b x y w a10 a11) (H : post (nI 7) (jb, 1, nI w, a1, a2, a3, a4, a5, a6, a7, a8, a9, a10, a11)) : wpX_fastest post (jb, 1, nI w, a1, a2, a3, a4, a5, a6, a7, a8, a9, a10, a11) := by
  obtain ⟨h1, h2, h3⟩ := cp_Dw hD
  have e : nI w - 1 = nI (w - 1) := pk_sub (b := 1) (by omega)
  unfold wpX_fastest
  refine cp_kn ?_
  refine br_f (nI_ne0 (by omega) (by omega)) ⟨pk_in (w - 1) 150 (by omega) e, ?_⟩
  rw [e, nI_clamp (by omega), h3]
  exact H
theorem cp_cost {post : Int32 → St2 → Prop} {a b x y w : Nat} (d : Nat) (hD : cp_D a b x y w a10 a11) (ha : a ≤ 3) (hb : b ≤ 3) (hx : x ≤ 20) (hy : y ≤ 20) (hd : d ≤ 100)
    (H0 : d < 7 → post (-1) (jb, 1, nI w, a1, a2, a3, a4, a5, a6, a7, a8, a9, a10, a11)) (H1 : 7 ≤ d → post (nI (cp_v a b x y d)) (jb, 1, nI w, a1, a2, a3, a4, a5, a6, a7, a8, a9, a10, a11)) : wpX_cost post (jb, 1, nI w, a1, a2, a3, a4, a5, a6, a7, a8, a9, a10, a11) (nI d) := by
  unfold wpX_cost
  refine br_t (nI_pos' (by omega)) ?_
  refine cp_kn ?_
  exact cp_cf hD ha hb hx hy hd H0 H1
theorem cp_within {post : Int32 → St2 → Prop} {a b x y w : Nat} (hD : cp_D a b x y w a10 a11) (ha : a ≤ 3) (hb : b ≤ 3) (hx : x ≤ 20) (hy : y ≤ 20) (hx1 : 1 ≤ x) (hy1 : 1 ≤ y)
    (H : post (nI (7 + a + b)) (jb, 1, nI w, a1, a2, a3, a4, a5, a6, a7, a8, a9, a10, a11)) : wpX_within post (jb, 1, nI w, a1, a2, a3, a4, a5, a6, a7, a8, a9, a10, a11) 0 := by
  unfold wpX_within
  refine br_t (by decide) ?_
  refine cp_kn ?_
  refine pk_loop (σ := Unit) (fun n i _ => wX_within_12 post 0 jb 1 (nI w) a1 a2 a3 a4 a5 a6 a7 a8 a9 a10 a11 n (nI i)) (fun _ _ => True) (7 + a + b) 0 () (by omega) trivial ?_ ?_
  · intro n _ _
    refine pk_lt 45 (7 + a + b) (fun z => absurd z (by omega)) (fun _ => ?_)
    refine cp_cf hD ha hb hx hy (by omega) (fun z => absurd z (by omega)) (fun _ => ?_)
    rw [cp_v_0 (Nat.le_refl _)]
    exact br_f (by decide) (br_f (by decide) H)
  · intro n i _ hi _ hw
    have hn : wX_within_12 post 0 jb 1 (nI w) a1 a2 a3 a4 a5 a6 a7 a8 a9 a10 a11 n (nI (i + 1)) := hw () trivial
    refine pk_lt 45 i (fun z => absurd z (by omega)) (fun _ => ?_)
    refine cp_cf hD ha hb hx hy (by omega) (fun _ => br_t (by decide) (nm_r (nI_1 i) hn)) (fun _ => ?_)
    have hv : cp_v a b x y i ≤ 1000 := cp_v_le ha hb hx hy
    have hv0 : 0 < cp_v a b x y i := cp_v_pos hx1 hy1 hi
    exact br_f (nI_pos (by omega)) (br_t (nI_lt (a := 0) hv0 (by omega)) (nm_r (nI_1 i) hn))
theorem cp_step {post : Int32 → St2 → Prop} {a b x y w : Nat} (hD : cp_D a b x y w a10 a11) (ha : a ≤ 3) (hb : b ≤ 3) (hx : x ≤ 20) (hy : y ≤ 20)
    (H : post 0 (jb, 1, nI w, a1, a2, a3, a4, a5, a6, a7, a8, a9, a10, a11)) : wpX_step post (jb, 1, nI w, a1, a2, a3, a4, a5, a6, a7, a8, a9, a10, a11) (nI (7 + a + b)) := by
  unfold wpX_step
  refine br_t (nI_pos' (by omega)) ?_
  refine cp_kn ?_
  refine cp_cf hD ha hb hx hy (by omega) (fun z => absurd z (by omega)) (fun _ => ?_)
  rw [cp_v_0 (Nat.le_refl _)]
  refine br_t (by decide) (br_t (nI_le (b := 1000) (by omega) (by omega)) ?_)
  rw [nI_1]
  refine cp_cf hD ha hb hx hy (by omega) (fun z => absurd z (by omega)) (fun _ => ?_)
  rw [cp_v_0 (by omega)]
  exact H
end
end
section
section
variable {jb kn ws : Int32} {a1 a2 a3 a4 a5 a6 a7 a8 a9 a10 a11 : Nat → Int32}
theorem cp_e7 (a b : Nat) : (7 : Int32) + nI a + nI b = nI (7 + a + b) := by
  rw [show (7 : Int32) = nI 7 from rfl, nI_add, nI_add]
theorem cp_228 {post : Int32 → St0 → Prop} {mc ms kc ks a b x y w s : Nat} (hp : post 1 ()) (hD : cp_D a b x y w a10 a11) (ha : a ≤ 3) (hb : b ≤ 3) (hx : x ≤ 20) (hy : y ≤ 20) (hx1 : 1 ≤ x) (hy1 : 1 ≤ y) (hs : s ≤ a + b) :
    wL_lawOf_228 post mc ms (nI a) (nI b) (nI x) (nI y) (nI s) (nI (cp_v a b x y (7 + a + b - s))) kc ks jb 1 (nI w) a1 a2 a3 a4 a5 a6 a7 a8 a9 a10 a11 := by
  unfold wL_lawOf_228
  rw [cp_e7, pk_sub (show s ≤ 7 + a + b by omega)]
  refine cp_cost (7 + a + b - s) hD ha hb hx hy (by omega) (fun z => absurd z (by omega)) (fun _ => br_t rfl ?_)
  refine cp_cost 6 hD ha hb hx hy (by omega) (fun _ => br_t rfl ?_) (fun z => absurd z (by omega))
  refine cp_within hD ha hb hx hy hx1 hy1 (br_t rfl ?_)
  refine cp_step hD ha hb hx hy (br_t rfl ?_)
  refine cp_cost 7 hD ha hb hx hy (by omega) (fun z => absurd z (by omega)) (fun _ => br_t ?_ hp)
  rw [cp_v_7, pk_mul, pk_mul, nI_add]
theorem cp_209 {post : Int32 → St0 → Prop} {mc ms kc ks a b x y w s : Nat} {z0 : Int32} (hp : post 1 ()) (hD : cp_D a b x y w a10 a11) (ha : a ≤ 3) (hb : b ≤ 3) (hx : x ≤ 20) (hy : y ≤ 20) (hx1 : 1 ≤ x) (hy1 : 1 ≤ y) (hs : s ≤ a + b)
    (hz : x ≠ y → z0 = nI (cp_v a b x y (7 + a + b - s))) : wL_lawOf_209 post mc ms (nI a) (nI b) (nI x) (nI y) (nI s) z0 kc ks jb 1 (nI w) a1 a2 a3 a4 a5 a6 a7 a8 a9 a10 a11 := by
  have K : wL_lawOf_228 post mc ms (nI a) (nI b) (nI x) (nI y) (nI s) (nI (cp_v a b x y (7 + a + b - s))) kc ks jb 1 (nI w) a1 a2 a3 a4 a5 a6 a7 a8 a9 a10 a11 := cp_228 hp hD ha hb hx hy hx1 hy1 hs
  refine pk_eq x y (fun h => ?_) (fun h => ?_)
  · rw [pk_mul]
    subst h
    rw [cp_v_eq hs] at K
    exact K
  · rw [hz h]
    exact K
theorem cp_178 {post : Int32 → St0 → Prop} {mc ms kc ks a b x y w s lo hi rm : Nat} (hp : post 1 ()) (hD : cp_D a b x y w a10 a11) (ha : a ≤ 3) (hb : b ≤ 3) (hx : x ≤ 20) (hy : y ≤ 20) (hx1 : 1 ≤ x) (hy1 : 1 ≤ y) (hs : s ≤ a + b) (hr : rm ≤ 3)
    (hz : x ≠ y → cp_v a b x y (7 + a + b - s) = if rm < s then rm * lo + (s - rm) * hi else s * lo) : wL_lawOf_178 post mc ms (nI a) (nI b) (nI x) (nI y) (nI s) (nI lo) (nI hi) (nI rm) kc ks jb 1 (nI w) a1 a2 a3 a4 a5 a6 a7 a8 a9 a10 a11 := by
  refine pk_lt rm s (fun h => ?_) (fun h => ?_)
  · exact cp_209 hp hD ha hb hx hy hx1 hy1 hs (fun ne => by rw [hz ne, if_pos h, pk_mul, pk_sub (by omega), pk_mul, nI_add])
  · exact cp_209 hp hD ha hb hx hy hx1 hy1 hs (fun ne => by rw [hz ne, if_neg (by omega), pk_mul])
theorem cp_146 {post : Int32 → St0 → Prop} {mc ms kc ks a b x y w s lo : Nat} (hp : post 1 ()) (hD : cp_D a b x y w a10 a11) (ha : a ≤ 3) (hb : b ≤ 3) (hx : x ≤ 20) (hy : y ≤ 20) (hx1 : 1 ≤ x) (hy1 : 1 ≤ y) (hs : s ≤ a + b)
    (hlo : lo = if y ≤ x then y else x) : wL_lawOf_146 post mc ms (nI a) (nI b) (nI x) (nI y) (nI s) (nI lo) kc ks jb 1 (nI w) a1 a2 a3 a4 a5 a6 a7 a8 a9 a10 a11 := by
  refine pk_le y x (fun h => ?_) (fun h => ?_)
  · rw [if_pos h] at hlo
    subst hlo
    exact pk_le lo x (fun _ => cp_178 hp hD ha hb hx hy hx1 hy1 hs hb (fun ne => cp_v_gt (by omega) hs)) (fun z => absurd z (by omega))
  · rw [if_neg (by omega)] at hlo
    subst hlo
    exact pk_le y lo (fun z => absurd z (by omega)) (fun _ => cp_178 hp hD ha hb hx hy hx1 hy1 hs ha (fun ne => cp_v_lt (by omega) hs))
end
theorem cp_law2 {post : Int32 → St0 → Prop} (hp : post 1 ()) {p0 p1 p2 p3 p4 : Int32} {a b x y e s : Nat} (ea : p0 &&& 3 = nI a) (eb : p1 &&& 3 = nI b)
    (ex : 1 + ((p2 &&& 255) - (p2 &&& 255) / 20 * 20) = nI x) (ey : 1 + (((p2 >>> ((8 : Int32) &&& 31)) &&& 255) - ((p2 >>> ((8 : Int32) &&& 31)) &&& 255) / 20 * 20) = nI y)
    (ee : 1 + (p4 &&& 3) = nI e) (es : (p3 &&& 255) - (p3 &&& 255) / (nI a + nI b + 1) * (nI a + nI b + 1) = nI s)
    (ha : a ≤ 3) (hb : b ≤ 3) (hx1 : 1 ≤ x) (hx : x ≤ 20) (hy1 : 1 ≤ y) (hy : y ≤ 20) (he1 : 1 ≤ e) (he : e ≤ 4) (hs : s ≤ a + b) :
    wpL_lawOf post 12 381 () p0 p1 p2 p3 p4 := by
  have n20 : ¬ (20 : Int32) = 0 := by decide
  have eab : nI a + nI b + 1 = nI (a + b + 1) := by rw [nI_add, nI_1]
  have e3 : (3 : Int32) + nI a = nI (3 + a) := nI_add 3 a
  have e4 : (4 : Int32) + nI b = nI (4 + b) := nI_add 4 b
  refine ⟨by omega, by omega, 11, 367, by omega, by omega, ?_⟩
  refine ⟨by omega, by omega, by omega, by omega, by omega, by omega, by omega, by omega, by omega, by omega, by omega, by omega, by omega, by omega, by omega, by omega, by omega, by omega, by omega, by omega, by omega, by omega, ?_⟩
  refine nm_r ea (nm_r eb ⟨n20, nm_r ex ⟨n20, nm_r ey (nm_r ee ?_)⟩⟩)
  rw [e3, e4]
  refine cp_add 0 0 e (3 + a) 3 x (by omega) (by omega) (by omega) (by omega) (by omega) (by omega) hx1 hx ?_
  refine cp_add 1 e 5 (4 + b) 4 y (by omega) (by omega) (by omega) (by omega) (by omega) (by omega) hy1 hy ?_
  refine br_t rfl ?_
  refine cp_slow (a := a) (b := b) (x := x) (y := y) (e := e) ⟨⟨?_, pk_us, ?_, pk_us, ?_, pk_us, ?_, pk_us, ?_, pk_us⟩, ha, hb, hx1, hx, hy1, hy, he1, he⟩ (fun w b6 b7 b8 b9 b10 b11 hD => br_t (cp_e7 a b).symm ?_)
  · rw [pk_un (by omega), pk_us]
  · rw [pk_un (by omega), pk_us]
  · rw [pk_un (by omega), pk_us]
  · rw [pk_un (by omega), pk_us]
  · rw [pk_un (by omega), pk_us]
  refine cp_fast hD (br_t rfl ⟨?_, nm_r es ?_⟩)
  · rw [eab]
    exact nI_ne0 (by omega) (by omega)
  · exact pk_le y x (fun h => cp_146 hp hD ha hb hx hy hx1 hy1 hs (by rw [if_pos h])) (fun h => cp_146 hp hD ha hb hx hy hx1 hy1 hs (by rw [if_neg (by omega)]))
/-- the law on its five numbers -/
theorem cp_lawOf {post : Int32 → St0 → Prop} (hp : post 1 ()) (p0 p1 p2 p3 p4 : Int32) : wpL_lawOf post 12 381 () p0 p1 p2 p3 p4 := by
  obtain ⟨a, ha, ea⟩ := pk_andE p0 (m := 3) 2 (by decide)
  obtain ⟨b, hb, eb⟩ := pk_andE p1 (m := 3) 2 (by decide)
  obtain ⟨u, hu, eu⟩ := pk_andE p2 (m := 255) 8 (by decide)
  obtain ⟨v, hv, ev⟩ := pk_andE (p2 >>> ((8 : Int32) &&& 31)) (m := 255) 8 (by decide)
  obtain ⟨t, ht, et⟩ := pk_andE p3 (m := 255) 8 (by decide)
  obtain ⟨q, hq, eq⟩ := pk_andE p4 (m := 3) 2 (by decide)
  have hu20 : u % 20 < 20 := Nat.mod_lt _ (by omega)
  have hv20 : v % 20 < 20 := Nat.mod_lt _ (by omega)
  have hs : t % (a + b + 1) < a + b + 1 := Nat.mod_lt t (by omega)
  refine cp_law2 (a := a) (b := b) (x := 1 + u % 20) (y := 1 + v % 20) (e := 1 + q) (s := t % (a + b + 1)) hp ea eb ?_ ?_ ?_ ?_ (by omega) (by omega) (by omega) (by omega) (by omega) (by omega) (by omega) (by omega) (by omega)
  · rw [eu, ← nI_add 1 (u % 20), ← pk_rem (a := u) (d := 20) (by omega) (by omega) (by omega)]
    rfl
  · rw [ev, ← nI_add 1 (v % 20), ← pk_rem (a := v) (d := 20) (by omega) (by omega) (by omega)]
    rfl
  · rw [eq]
    exact nI_add 1 q
  · rw [nI_add, nI_1, et]
    exact pk_rem (by omega) (by omega) (by omega)
/-- a cell of the script -/
theorem cp_cell {post : Int32 → Prop} {L : Nat} {xs : Nat → Int32} (hL : L ≤ 5) (k : Nat) (hk : k < 5) (H : ∀ v, post v) : wpL_cellAt post L xs () (nI k) :=
  pk_le L k (fun _ => H 0) (fun z => ⟨pk_in k L (by omega), H _⟩)
theorem i_vc (xs : Nat → Int32) (L : Nat) (hL : L ≤ 5) : wpL_law (fun r => r = 1) L xs := by
  unfold wpL_law
  refine cp_cell hL 0 (by omega) (fun v0 => ?_)
  refine cp_cell hL 1 (by omega) (fun v1 => ?_)
  refine cp_cell hL 2 (by omega) (fun v2 => ?_)
  refine cp_cell hL 3 (by omega) (fun v3 => ?_)
  refine cp_cell hL 4 (by omega) (fun v4 => ?_)
  exact ⟨12, 381, by omega, by omega, cp_lawOf rfl v0 v1 v2 v3 v4⟩
end
