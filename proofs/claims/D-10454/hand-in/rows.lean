section
/-! plain facts -/
theorem il_n4 {n : Nat} (h : n < 2 ^ 31) : nI n ≠ (-4 : Int32) := fun e => nI_pos h (by rw [e]; decide)
theorem il_4n {n : Nat} (h : n < 2 ^ 31) : (-4 : Int32) ≠ nI n := fun e => il_n4 h e.symm
theorem il_inj {a b : Nat} (ha : a < 2 ^ 31) (hb : b < 2 ^ 31) (e : nI a = nI b) : a = b := (nI_eq ha hb).mp e
theorem il_uu (f : Nat → Int32) (k : Nat) (v w : Int32) : upd (upd f k v) k w = upd f k w := by
  funext j
  by_cases e : j = k
  · rw [e, pk_us, pk_us]
  · rw [pk_un e, pk_un e, pk_un e]
theorem il_uself (f : Nat → Int32) (k : Nat) (v : Int32) (h : f k = v) : upd f k v = f := by
  funext j
  by_cases e : j = k
  · rw [e, pk_us, h]
  · rw [pk_un e]
theorem il_ucomm (f : Nat → Int32) {k j : Nat} (v w : Int32) (h : k ≠ j) : upd (upd f k v) j w = upd (upd f j w) k v := by
  funext i
  by_cases e : i = j
  · rw [e, pk_us, pk_un (Ne.symm h), pk_us]
  · by_cases e2 : i = k
    · rw [e2, pk_un h, pk_us, pk_us]
    · rw [pk_un e, pk_un e2, pk_un e2, pk_un e]
/-- a store at a place that may be none -/
def il_sb (f : Nat → Int32) (h v : Int32) : Nat → Int32 := if h < 0 then f else upd f h.toNatClampNeg v
theorem il_sb_neg {f : Nat → Int32} {h v : Int32} (k : h < 0) : il_sb f h v = f := if_pos k
theorem il_sb_nI {f : Nat → Int32} {v : Int32} {p : Nat} (hp : p < 2 ^ 31) : il_sb f (nI p) v = upd f p v := by
  unfold il_sb
  rw [if_neg (nI_pos hp), nI_clamp hp]
theorem il_4neg : (-4 : Int32) < 0 := by decide
/-! the chain -/
def il_D (nx bf : Nat → Int32) : Int32 → Int32 → List Nat → Prop
  | h, _, [] => h = -4
  | h, b, p :: l => h = nI p ∧ p < 48 ∧ bf p = b ∧ il_D nx bf (nx p) (nI p) l
theorem il_Dframe {nx bf nx' bf' : Nat → Int32} : ∀ (l : List Nat) (h b : Int32), (∀ q, q ∈ l → nx' q = nx q) → (∀ q, q ∈ l → bf' q = bf q) → il_D nx bf h b l → il_D nx' bf' h b l := by
  intro l
  induction l with
  | nil => exact fun h b _ _ k => k
  | cons p l ih =>
    intro h b h1 h2 k
    obtain ⟨k1, k2, k3, k4⟩ := k
    refine ⟨k1, k2, by rw [h2 p (by simp)]; exact k3, ?_⟩
    rw [h1 p (by simp)]
    exact ih _ _ (fun q hq => h1 q (List.mem_cons_of_mem _ hq)) (fun q hq => h2 q (List.mem_cons_of_mem _ hq)) k4
theorem il_Dh {nx bf : Nat → Int32} {h b : Int32} {l : List Nat} (k : il_D nx bf h b l) : (h = -4 ∧ l = []) ∨ ∃ q t, l = q :: t ∧ h = nI q ∧ q < 48 := by
  cases l with
  | nil => exact Or.inl ⟨k, rfl⟩
  | cons q t => exact Or.inr ⟨q, t, rfl, k.1, k.2.1⟩
theorem il_Dhead {nx bf : Nat → Int32} {h b b' : Int32} {l : List Nat} (nd : l.Nodup) (k : il_D nx bf h b l) : il_D nx (il_sb bf h b') h b' l := by
  cases l with
  | nil => exact k
  | cons q t =>
    obtain ⟨k1, k2, k3, k4⟩ := k
    rw [k1, il_sb_nI (by omega)]
    refine ⟨rfl, k2, pk_us, ?_⟩
    refine il_Dframe t _ _ (fun _ _ => rfl) (fun x hx => pk_un ?_) k4
    intro e
    rw [e] at hx
    exact (List.nodup_cons.mp nd).1 hx
theorem il_Dnx {nx bf : Nat → Int32} {p : Nat} : ∀ (l : List Nat) (h b : Int32), l.Nodup → il_D nx bf h b l → p ∈ l → nx p = -4 ∨ ∃ x, x ∈ l ∧ x < 48 ∧ x ≠ p ∧ nx p = nI x := by
  intro l
  induction l with
  | nil => exact fun h b _ _ hp => absurd hp (by simp)
  | cons q t ih =>
    intro h b nd k hp
    obtain ⟨k1, k2, k3, k4⟩ := k
    obtain ⟨n1, n2⟩ := List.nodup_cons.mp nd
    by_cases e : p = q
    · subst e
      rcases il_Dh k4 with ⟨z, _⟩ | ⟨x, t', e1, e2, e3⟩
      · exact Or.inl z
      · refine Or.inr ⟨x, by rw [e1]; simp, e3, ?_, e2⟩
        intro e4
        apply n1
        rw [e1, e4]
        simp
    · have hp' : p ∈ t := by
        rcases List.mem_cons.mp hp with z | z
        · exact absurd z e
        · exact z
      rcases ih _ _ n2 k4 hp' with z | ⟨x, x1, x2, x3, x4⟩
      · exact Or.inl z
      · exact Or.inr ⟨x, List.mem_cons_of_mem _ x1, x2, x3, x4⟩
theorem il_Dbf {nx bf : Nat → Int32} {p : Nat} : ∀ (l : List Nat) (h b : Int32), l.Nodup → il_D nx bf h b l → p ∈ l → bf p = b ∨ ∃ x, x ∈ l ∧ x < 48 ∧ x ≠ p ∧ bf p = nI x := by
  intro l
  induction l with
  | nil => exact fun h b _ _ hp => absurd hp (by simp)
  | cons q t ih =>
    intro h b nd k hp
    obtain ⟨k1, k2, k3, k4⟩ := k
    obtain ⟨n1, n2⟩ := List.nodup_cons.mp nd
    by_cases e : p = q
    · subst e
      exact Or.inl k3
    · have hp' : p ∈ t := by
        rcases List.mem_cons.mp hp with z | z
        · exact absurd z e
        · exact z
      rcases ih _ _ n2 k4 hp' with z | ⟨x, x1, x2, x3, x4⟩
      · exact Or.inr ⟨q, by simp, k2, Ne.symm e, z⟩
      · exact Or.inr ⟨x, List.mem_cons_of_mem _ x1, x2, x3, x4⟩
/-- the head goes -/
theorem il_DunA {nx bf : Nat → Int32} {p : Nat} {t : List Nat} {h b : Int32} (nd : (p :: t).Nodup) (hb : b < 0 ∨ ∃ c, c < 48 ∧ c ∉ t ∧ b = nI c) (k : il_D nx bf h b (p :: t)) : il_D (il_sb nx (bf p) (nx p)) (il_sb bf (nx p) (bf p)) (nx p) b t := by
  obtain ⟨k1, k2, k3, k4⟩ := k
  obtain ⟨n1, n2⟩ := List.nodup_cons.mp nd
  rw [k3]
  refine il_Dframe t _ _ (fun q hq => ?_) (fun _ _ => rfl) (il_Dhead (b' := b) n2 k4)
  rcases hb with z | ⟨c, c1, c2, c3⟩
  · rw [il_sb_neg z]
  · rw [c3, il_sb_nI (by omega)]
    refine pk_un ?_
    intro e
    rw [e] at hq
    exact c2 hq
theorem il_sb_off {f : Nat → Int32} {h v : Int32} {q : Nat} (k : h = -4 ∨ ∃ x, x < 48 ∧ x ≠ q ∧ h = nI x) : il_sb f h v q = f q := by
  rcases k with z | ⟨x, x1, x2, x3⟩
  · rw [z, il_sb_neg il_4neg]
  · rw [x3, il_sb_nI (by omega)]
    exact pk_un (Ne.symm x2)
/-- one behind the head goes -/
theorem il_DunB {nx bf : Nat → Int32} {p : Nat} : ∀ (t : List Nat) (q : Nat) (h b : Int32), (q :: t).Nodup → p ∈ t → il_D nx bf h b (q :: t) → il_D (il_sb nx (bf p) (nx p)) (il_sb bf (nx p) (bf p)) h b (q :: t.erase p) := by
  intro t
  induction t with
  | nil => exact fun q h b _ hp _ => absurd hp (by simp)
  | cons r t ih =>
    intro q h b nd hp k
    obtain ⟨k1, k2, k3, k4⟩ := k
    obtain ⟨n1, n2⟩ := List.nodup_cons.mp nd
    have hnx : nx p = -4 ∨ ∃ x, x < 48 ∧ x ≠ q ∧ nx p = nI x := by
      rcases il_Dnx _ _ _ n2 k4 hp with z | ⟨x, x1, x2, x3, x4⟩
      · exact Or.inl z
      · refine Or.inr ⟨x, x2, ?_, x4⟩
        intro e
        rw [e] at x1
        exact n1 x1
    by_cases e : r = p
    · subst e
      have hb : bf r = nI q := k4.2.2.1
      have ee : (r :: t).erase r = t := by simp
      rw [ee]
      refine ⟨k1, k2, by rw [il_sb_off hnx]; exact k3, ?_⟩
      have e1 : il_sb nx (bf r) (nx r) q = nx r := by rw [hb, il_sb_nI (by omega), pk_us]
      rw [e1]
      exact il_DunA n2 (Or.inr ⟨q, k2, fun z => n1 (List.mem_cons_of_mem _ z), rfl⟩) k4
    · have hp' : p ∈ t := by
        rcases List.mem_cons.mp hp with z | z
        · exact absurd z.symm e
        · exact z
      have ee : (r :: t).erase p = r :: t.erase p := by
        rw [List.erase_cons]
        simp [e]
      rw [ee]
      have hbf : bf p = -4 ∨ ∃ x, x < 48 ∧ x ≠ q ∧ bf p = nI x := by
        rcases il_Dbf _ _ _ (List.nodup_cons.mp n2).2 k4.2.2.2 hp' with z | ⟨x, x1, x2, x3, x4⟩
        · refine Or.inr ⟨r, k4.2.1, ?_, z⟩
          intro z2
          apply n1
          rw [← z2]
          simp
        · refine Or.inr ⟨x, x2, ?_, x4⟩
          intro z2
          apply n1
          rw [← z2]
          exact List.mem_cons_of_mem _ x1
      refine ⟨k1, k2, by rw [il_sb_off hnx]; exact k3, ?_⟩
      rw [il_sb_off hbf]
      exact ih r (nx q) (nI q) n2 hp' k4
/-- every name's chain holds the places that bear the name -/
def il_C (nm hd nx bf : Nat → Int32) : Prop := ∀ s, s < 10 → ∃ l : List Nat, l.Nodup ∧ il_D nx bf (hd s) (-4) l ∧ ∀ p, p ∈ l ↔ p < 48 ∧ nm p = nI s
theorem il_C_hd {nm hd nx bf : Nat → Int32} {s : Nat} (hs : s < 10) (h : il_C nm hd nx bf) : hd s = -4 ∨ ∃ x, x < 48 ∧ nm x = nI s ∧ hd s = nI x := by
  obtain ⟨l, _, dl, mem⟩ := h s hs
  rcases il_Dh dl with ⟨z, _⟩ | ⟨x, t', e1, e2, e3⟩
  · exact Or.inl z
  · exact Or.inr ⟨x, e3, ((mem x).mp (by rw [e1]; simp)).2, e2⟩
theorem il_C_link {nm hd nx bf : Nat → Int32} {p s : Nat} (hp : p < 48) (hs : s < 10) (h : il_C nm hd nx bf) (hn : nm p = -4) : il_C (upd nm p (nI s)) (upd hd s (nI p)) (upd nx p (hd s)) (il_sb (upd bf p (-4)) (hd s) (nI p)) := by
  intro t ht
  have hh := il_C_hd hs h
  by_cases e : t = s
  · subst e
    obtain ⟨l, nd, dl, mem⟩ := h t ht
    have pl : p ∉ l := fun z => il_4n (by omega) (hn.symm.trans ((mem p).mp z).2)
    have hh2 : hd t = -4 ∨ ∃ x, x < 48 ∧ x ≠ p ∧ hd t = nI x := by
      rcases hh with z | ⟨x, x1, x2, x3⟩
      · exact Or.inl z
      · refine Or.inr ⟨x, x1, ?_, x3⟩
        intro e
        rw [e, hn] at x2
        exact il_4n (by omega) x2
    refine ⟨p :: l, List.nodup_cons.mpr ⟨pl, nd⟩, ⟨pk_us, hp, ?_, ?_⟩, ?_⟩
    · rw [il_sb_off hh2, pk_us]
    · rw [pk_us]
      refine il_Dhead nd (b := -4) (il_Dframe l _ _ (fun q hq => pk_un ?_) (fun q hq => pk_un ?_) dl)
      · intro e
        rw [e] at hq
        exact pl hq
      · intro e
        rw [e] at hq
        exact pl hq
    · intro q
      by_cases e : q = p
      · subst e
        rw [pk_us]
        simp [hp]
      · rw [pk_un e, ← mem q]
        simp [e]
  · obtain ⟨l, nd, dl, mem⟩ := h t ht
    have off : ∀ q, q ∈ l → q ≠ p := by
      intro q hq e
      rw [e] at hq
      exact il_4n (by omega) (hn.symm.trans ((mem p).mp hq).2)
    refine ⟨l, nd, ?_, ?_⟩
    · rw [pk_un e]
      refine il_Dframe l _ _ (fun q hq => pk_un (off q hq)) (fun q hq => ?_) dl
      rw [il_sb_off, pk_un (off q hq)]
      rcases hh with z | ⟨x, x1, x2, x3⟩
      · exact Or.inl z
      · refine Or.inr ⟨x, x1, ?_, x3⟩
        intro e3
        rw [e3, ((mem q).mp hq).2] at x2
        exact e (il_inj (by omega) (by omega) x2)
    · intro q
      rw [mem q]
      by_cases e2 : q = p
      · subst e2
        rw [pk_us, hn]
        constructor
        · exact fun z => absurd z.2 (il_4n (by omega))
        · exact fun z => absurd (il_inj (by omega) (by omega) z.2).symm e
      · rw [pk_un e2]
theorem il_C_nbr {nm hd nx bf : Nat → Int32} {p s : Nat} (hp : p < 48) (hs : s < 10) (h : il_C nm hd nx bf) (hn : nm p = nI s) : (bf p = -4 ∨ ∃ x, x < 48 ∧ x ≠ p ∧ nm x = nI s ∧ bf p = nI x) ∧ (nx p = -4 ∨ ∃ x, x < 48 ∧ x ≠ p ∧ nm x = nI s ∧ nx p = nI x) := by
  obtain ⟨l, nd, dl, mem⟩ := h s hs
  have pl : p ∈ l := (mem p).mpr ⟨hp, hn⟩
  constructor
  · rcases il_Dbf _ _ _ nd dl pl with z | ⟨x, x1, x2, x3, x4⟩
    · exact Or.inl z
    · exact Or.inr ⟨x, x2, x3, ((mem x).mp x1).2, x4⟩
  · rcases il_Dnx _ _ _ nd dl pl with z | ⟨x, x1, x2, x3, x4⟩
    · exact Or.inl z
    · exact Or.inr ⟨x, x2, x3, ((mem x).mp x1).2, x4⟩
theorem il_C_unlink {nm hd nx bf : Nat → Int32} {p s : Nat} (hp : p < 48) (hs : s < 10) (h : il_C nm hd nx bf) (hn : nm p = nI s) : il_C (upd nm p (-4)) (if bf p < 0 then upd hd s (nx p) else hd) (il_sb nx (bf p) (nx p)) (il_sb bf (nx p) (bf p)) := by
  intro t ht
  obtain ⟨nb, nn⟩ := il_C_nbr hp hs h hn
  by_cases e : t = s
  · subst e
    obtain ⟨l, nd, dl, mem⟩ := h t ht
    have pl : p ∈ l := (mem p).mpr ⟨hp, hn⟩
    cases l with
    | nil => exact absurd pl (by simp)
    | cons q l =>
      obtain ⟨n1, n2⟩ := List.nodup_cons.mp nd
      by_cases e : q = p
      · subst e
        have hb : bf q = -4 := dl.2.2.1
        refine ⟨l, n2, ?_, ?_⟩
        · rw [if_pos (by rw [hb]; exact il_4neg), pk_us]
          exact il_DunA nd (Or.inl il_4neg) dl
        · intro x
          by_cases e : x = q
          · subst e
            rw [pk_us]
            exact ⟨fun z => absurd z n1, fun z => absurd z.2 (il_4n (by omega))⟩
          · rw [pk_un e, ← mem x]
            simp [e]
      · have pl' : p ∈ l := by
          rcases List.mem_cons.mp pl with z | z
          · exact absurd z.symm e
          · exact z
        have hb : ¬ bf p < 0 := by
          rcases il_Dbf _ _ _ n2 dl.2.2.2 pl' with z | ⟨x, x1, x2, x3, x4⟩
          · rw [z]
            exact nI_pos (by have := dl.2.1; omega)
          · rw [x4]
            exact nI_pos (by omega)
        refine ⟨q :: l.erase p, ?_, ?_, ?_⟩
        · refine List.nodup_cons.mpr ⟨fun z => n1 (List.mem_of_mem_erase z), ?_⟩
          exact List.Sublist.nodup List.erase_sublist n2
        · rw [if_neg hb]
          exact il_DunB l q _ _ nd pl' dl
        · intro x
          have m2 := mem x
          rw [List.mem_cons] at m2
          rw [List.mem_cons, List.Nodup.mem_erase_iff n2]
          by_cases e2 : x = p
          · subst e2
            rw [pk_us]
            constructor
            · rintro (z | z)
              · exact absurd z.symm e
              · exact absurd rfl z.1
            · exact fun z => absurd z.2 (il_4n (by omega))
          · rw [pk_un e2, ← m2]
            simp [e2]
  · obtain ⟨l, nd, dl, mem⟩ := h t ht
    have hd' : (if bf p < 0 then upd hd s (nx p) else hd) t = hd t := by
      by_cases c : bf p < 0
      · rw [if_pos c, pk_un e]
      · rw [if_neg c]
    have off : ∀ q, q ∈ l → ∀ x, nm x = nI s → x ≠ q := by
      intro q hq x hx e2
      rw [e2, ((mem q).mp hq).2] at hx
      exact e (il_inj (by omega) (by omega) hx)
    refine ⟨l, nd, ?_, ?_⟩
    · rw [hd']
      refine il_Dframe l _ _ (fun q hq => il_sb_off ?_) (fun q hq => il_sb_off ?_) dl
      · rcases nb with z | ⟨x, x1, _, x3, x4⟩
        · exact Or.inl z
        · exact Or.inr ⟨x, x1, off q hq x x3, x4⟩
      · rcases nn with z | ⟨x, x1, _, x3, x4⟩
        · exact Or.inl z
        · exact Or.inr ⟨x, x1, off q hq x x3, x4⟩
    · intro q
      rw [mem q]
      by_cases e2 : q = p
      · subst e2
        rw [pk_us, hn]
        constructor
        · exact fun z => absurd (il_inj (by omega) (by omega) z.2).symm e
        · exact fun z => absurd z.2 (il_4n (by omega))
      · rw [pk_un e2]
theorem il_C_congr {nm nm' hd nx bf : Nat → Int32} (h : il_C nm hd nx bf) (e : ∀ p, p < 48 → nm' p = nm p) : il_C nm' hd nx bf := by
  intro s hs
  obtain ⟨l, nd, dl, mem⟩ := h s hs
  refine ⟨l, nd, dl, fun p => ?_⟩
  rw [mem p]
  constructor
  · exact fun z => ⟨z.1, by rw [e p z.1]; exact z.2⟩
  · exact fun z => ⟨z.1, by rw [← e p z.1]; exact z.2⟩
end
section
section
variable {a1 a2 a3 a4 a5 a6 a7 a8 a9 a10 : Nat → Int32}
/-- what a reference is worth -/
def il_b (k a : Int32) : Int32 := if 0 ≤ k then k + a else -1
theorem il_w_link {post : St1 → Prop} {p s : Nat} (hp : p < 48) (hs : s < 10) (hr : a8 s = -4 ∨ ∃ x, x < 48 ∧ a8 s = nI x)
    (H : post (a1, a2, a3, a4, a5, a6, a7, upd a8 s (nI p), upd a9 p (a8 s), il_sb (upd a10 p (-4)) (a8 s) (nI p))) :
    wpX_link post (a1, a2, a3, a4, a5, a6, a7, a8, a9, a10) (nI p) (nI s) := by
  unfold wpX_link
  rw [nI_clamp (show s < 2 ^ 31 by omega), nI_clamp (show p < 2 ^ 31 by omega)]
  refine ⟨pk_in s 10 hs, nm_e ⟨pk_in p 48 hp, nm_e ⟨pk_in p 48 hp, nm_e ?_⟩⟩⟩
  rcases hr with z | ⟨x, x1, x2⟩
  · rw [il_sb_neg (by rw [z]; exact il_4neg)] at H
    exact br_t (by rw [z]; exact il_4neg) ⟨pk_in s 10 hs, nm_e H⟩
  · rw [x2] at H ⊢
    rw [il_sb_nI (by omega)] at H
    exact br_f (nI_pos (by omega)) ⟨pk_in x 48 x1, nm_r (e' := upd (upd a10 p (-4)) x (nI p)) (by rw [nI_clamp (by omega)]) ⟨pk_in s 10 hs, nm_e H⟩⟩
theorem il_w_un41 {post : St1 → Prop} {p : Nat} (hp : p < 48) (hn : a9 p = -4 ∨ ∃ x, x < 48 ∧ a9 p = nI x)
    (H : post (a1, a2, a3, a4, a5, a6, a7, a8, a9, il_sb a10 (a9 p) (a10 p))) :
    wX_unlink_41 post (nI p) a1 a2 a3 a4 a5 a6 a7 a8 a9 a10 := by
  unfold wX_unlink_41
  rw [nI_clamp (show p < 2 ^ 31 by omega)]
  refine ⟨pk_in p 48 hp, ?_⟩
  rcases hn with z | ⟨x, x1, x2⟩
  · rw [il_sb_neg (by rw [z]; exact il_4neg)] at H
    exact br_t (by rw [z]; exact il_4neg) H
  · rw [x2, il_sb_nI (by omega)] at H
    rw [x2, nI_clamp (show x < 2 ^ 31 by omega)]
    exact br_f (nI_pos (by omega)) ⟨pk_in p 48 hp, pk_in p 48 hp, pk_in x 48 x1, nm_e H⟩
theorem il_w_unlink {post : St1 → Prop} {p s : Nat} (hp : p < 48) (hs : s < 10) (hb : a10 p = -4 ∨ ∃ x, x < 48 ∧ x ≠ p ∧ a10 p = nI x) (hn : a9 p = -4 ∨ ∃ x, x < 48 ∧ a9 p = nI x)
    (H : post (a1, a2, a3, a4, a5, a6, a7, (if a10 p < 0 then upd a8 s (a9 p) else a8), il_sb a9 (a10 p) (a9 p), il_sb a10 (a9 p) (a10 p))) :
    wpX_unlink post (a1, a2, a3, a4, a5, a6, a7, a8, a9, a10) (nI p) (nI s) := by
  unfold wpX_unlink
  rw [nI_clamp (show s < 2 ^ 31 by omega), nI_clamp (show p < 2 ^ 31 by omega)]
  refine ⟨pk_in p 48 hp, ?_⟩
  rcases hb with z | ⟨x, x1, x2, x3⟩
  · have e : il_sb a9 (a10 p) (a9 p) = a9 := il_sb_neg (by rw [z]; exact il_4neg)
    rw [if_pos (by rw [z]; exact il_4neg), e] at H
    exact br_t (by rw [z]; exact il_4neg) ⟨pk_in p 48 hp, pk_in s 10 hs, nm_e (il_w_un41 hp hn H)⟩
  · have e : il_sb a9 (a10 p) (a9 p) = upd a9 x (a9 p) := by rw [x3, il_sb_nI (by omega)]
    rw [if_neg (by rw [x3]; exact nI_pos (by omega)), e] at H
    have e2 : upd a9 x (a9 p) p = a9 p := pk_un (Ne.symm x2)
    exact br_f (by rw [x3]; exact nI_pos (by omega)) ⟨pk_in p 48 hp, pk_in p 48 hp, pk_in x 48 x1 x3, nm_r (e' := upd a9 x (a9 p)) (by rw [x3, nI_clamp (by omega)]) (il_w_un41 hp (by rw [e2]; exact hn) (by rw [e2]; exact H))⟩
theorem il_w_bind {post : St1 → Prop} {p s : Nat} (hp : p < 48) (hs : s < 10) (hn : a3 p = nI s)
    (H : post (a1, upd a2 p (il_b (a6 s) (a4 p)), a3, a4, a5, a6, a7, a8, a9, a10)) :
    wpX_bind post (a1, a2, a3, a4, a5, a6, a7, a8, a9, a10) (nI p) := by
  unfold wpX_bind
  rw [nI_clamp (show p < 2 ^ 31 by omega)]
  refine ⟨pk_in p 48 hp, nm_r hn ?_⟩
  rw [nI_clamp (show s < 2 ^ 31 by omega)]
  unfold il_b at H
  refine ⟨pk_in s 10 hs, br_c (fun c => ?_) (fun c => ?_)⟩
  · rw [if_pos c] at H
    exact ⟨pk_in s 10 hs, pk_in p 48 hp, pk_in p 48 hp, nm_e H⟩
  · rw [if_neg c] at H
    exact ⟨pk_in p 48 hp, nm_e H⟩
theorem il_w_put0 {post : St1 → Prop} {p : Nat} {v more : Int32} (hp : p < 48)
    (H : post (a1, upd a2 p v, upd a3 p (-4), upd a4 p more, a5, a6, a7, a8, a9, a10)) :
    wpX_put post (a1, a2, a3, a4, a5, a6, a7, a8, a9, a10) (nI p) v (-4) more := by
  unfold wpX_put
  rw [nI_clamp (show p < 2 ^ 31 by omega)]
  exact ⟨pk_in p 48 hp, nm_e ⟨pk_in p 48 hp, nm_e ⟨pk_in p 48 hp, nm_e (br_t il_4neg H)⟩⟩⟩
theorem il_w_putS {post : St1 → Prop} {p s : Nat} {v more : Int32} (hp : p < 48) (hs : s < 10) (hr : a8 s = -4 ∨ ∃ x, x < 48 ∧ a8 s = nI x)
    (H : post (a1, upd a2 p (il_b (a6 s) more), upd a3 p (nI s), upd a4 p more, a5, a6, a7, upd a8 s (nI p), upd a9 p (a8 s), il_sb (upd a10 p (-4)) (a8 s) (nI p))) :
    wpX_put post (a1, a2, a3, a4, a5, a6, a7, a8, a9, a10) (nI p) v (nI s) more := by
  unfold wpX_put
  rw [nI_clamp (show p < 2 ^ 31 by omega)]
  refine ⟨pk_in p 48 hp, nm_e ⟨pk_in p 48 hp, nm_e ⟨pk_in p 48 hp, nm_e (br_f (nI_pos (by omega)) ?_)⟩⟩⟩
  refine il_w_link hp hs hr ?_
  refine il_w_bind hp hs pk_us ?_
  rw [show upd a4 p more p = more from pk_us, il_uu]
  exact H
/-! the words: names, values, chains -/
def il_N (nm : Nat → Int32) : Prop := ∀ p, p < 48 → nm p = -4 ∨ ∃ s, s < 10 ∧ nm p = nI s
def il_V (nm va ad kn : Nat → Int32) : Prop := ∀ p s, p < 48 → s < 10 → nm p = nI s → va p = il_b (kn s) (ad p)
def il_W (nm va ad kn hd nx bf : Nat → Int32) : Prop := il_N nm ∧ il_V nm va ad kn ∧ il_C nm hd nx bf
theorem il_hr {nm hd nx bf : Nat → Int32} {s : Nat} (hs : s < 10) (h : il_C nm hd nx bf) : hd s = -4 ∨ ∃ x, x < 48 ∧ hd s = nI x := by
  rcases il_C_hd hs h with z | ⟨x, x1, _, x3⟩
  · exact Or.inl z
  · exact Or.inr ⟨x, x1, x3⟩
/-- a name is taken off a place -/
theorem il_unl {p s : Nat} (hp : p < 48) (hs : s < 10) (hC : il_C a3 a8 a9 a10) (hn : a3 p = nI s) :
    ∃ b8 b9 b10, il_C (upd a3 p (-4)) b8 b9 b10 ∧ ∀ post : St1 → Prop, post (a1, a2, a3, a4, a5, a6, a7, b8, b9, b10) → wpX_unlink post (a1, a2, a3, a4, a5, a6, a7, a8, a9, a10) (nI p) (nI s) := by
  refine ⟨_, _, _, il_C_unlink hp hs hC hn, fun post H => ?_⟩
  obtain ⟨nb, nn⟩ := il_C_nbr hp hs hC hn
  refine il_w_unlink hp hs ?_ ?_ H
  · rcases nb with z | ⟨x, x1, x2, _, x4⟩
    · exact Or.inl z
    · exact Or.inr ⟨x, x1, x2, x4⟩
  · rcases nn with z | ⟨x, x1, x2, _, x4⟩
    · exact Or.inl z
    · exact Or.inr ⟨x, x1, x4⟩
theorem il_move {f t : Nat} (hf : f < 48) (ht : t < 48) (ne : f ≠ t) (hw : il_W a3 a2 a4 a6 a8 a9 a10) (h4 : a3 t = -4) :
    ∃ b8 b9 b10, il_W (upd (upd a3 t (a3 f)) f (-4)) (upd a2 t (a2 f)) (upd a4 t (a4 f)) a6 b8 b9 b10 ∧
      ∀ post : St1 → Prop, post (a1, upd a2 t (a2 f), upd (upd a3 t (a3 f)) f (-4), upd a4 t (a4 f), a5, a6, a7, b8, b9, b10) →
        wpX_moveWord post (a1, a2, a3, a4, a5, a6, a7, a8, a9, a10) (nI f) (nI t) := by
  obtain ⟨hN, hV, hC⟩ := hw
  have N' : il_N (upd (upd a3 t (a3 f)) f (-4)) := by
    intro p hp
    by_cases e : p = f
    · exact Or.inl (by rw [e, pk_us])
    · rw [pk_un e]
      by_cases e2 : p = t
      · rw [e2, pk_us]
        exact hN f hf
      · rw [pk_un e2]
        exact hN p hp
  have V' : il_V (upd (upd a3 t (a3 f)) f (-4)) (upd a2 t (a2 f)) (upd a4 t (a4 f)) a6 := by
    intro p s hp hs h
    by_cases e : p = f
    · rw [e, pk_us] at h
      exact absurd h (il_4n (by omega))
    · rw [pk_un e] at h
      by_cases e2 : p = t
      · rw [e2, pk_us] at h
        rw [e2, pk_us, pk_us]
        exact hV f s hf hs h
      · rw [pk_un e2] at h
        rw [pk_un e2, pk_un e2]
        exact hV p s hp hs h
  rcases hN f hf with z | ⟨s, hs, z⟩
  · refine ⟨a8, a9, a10, ⟨N', V', ?_⟩, fun post H => ?_⟩
    · refine il_C_congr hC (fun p hp => ?_)
      by_cases e : p = f
      · rw [e, pk_us, z]
      · rw [pk_un e]
        by_cases e2 : p = t
        · rw [e2, pk_us, z, h4]
        · rw [pk_un e2]
    · rw [z] at H
      unfold wpX_moveWord
      rw [nI_clamp (show f < 2 ^ 31 by omega)]
      refine ⟨pk_in f 48 hf, nm_r z (br_t il_4neg ?_)⟩
      unfold wX_moveWord_17
      rw [nI_clamp (show f < 2 ^ 31 by omega)]
      exact ⟨pk_in f 48 hf, pk_in f 48 hf, il_w_put0 ht ⟨pk_in f 48 hf, nm_e H⟩⟩
  · have C1 := il_C_unlink hf hs hC z
    have C2 := il_C_link (p := t) ht hs C1 (by rw [pk_un (Ne.symm ne)]; exact h4)
    rw [il_ucomm a3 (-4) (nI s) ne] at C2
    rw [z] at N' V' ⊢
    refine ⟨_, _, _, ⟨N', V', C2⟩, fun post H => ?_⟩
    obtain ⟨nb, nn⟩ := il_C_nbr hf hs hC z
    unfold wpX_moveWord
    rw [nI_clamp (show f < 2 ^ 31 by omega)]
    refine ⟨pk_in f 48 hf, nm_r z (br_f (nI_pos (by omega)) (il_w_unlink hf hs ?_ ?_ ?_))⟩
    · rcases nb with z | ⟨x, x1, x2, _, x4⟩
      · exact Or.inl z
      · exact Or.inr ⟨x, x1, x2, x4⟩
    · rcases nn with z | ⟨x, x1, x2, _, x4⟩
      · exact Or.inl z
      · exact Or.inr ⟨x, x1, x4⟩
    · show wX_moveWord_17 post (nI f) (nI t) (nI s) _ _ _ _ _ _ _ _ _ _
      unfold wX_moveWord_17
      rw [nI_clamp (show f < 2 ^ 31 by omega)]
      rw [hV f s hf hs z] at H
      exact ⟨pk_in f 48 hf, pk_in f 48 hf, il_w_putS ht hs (il_hr hs C1) ⟨pk_in f 48 hf, nm_e H⟩⟩
end
end
section
section
variable {a1 a2 a3 a4 a5 a6 a7 a8 a9 a10 : Nat → Int32}
theorem il_len {l : List Nat} {N : Nat} (nd : l.Nodup) (h : ∀ q, q ∈ l → q < N) : l.length ≤ N := by
  have k := List.Nodup.length_le_of_subset (l₂ := List.range N) nd (fun q hq => List.mem_range.mpr (h q hq))
  rw [List.length_range] at k
  exact k
theorem il_sub1 (x : Int32) : x - 1 = x + (-1) := Int32.sub_eq_add_neg x 1
theorem il_ix (m s : Nat) : nI m * 10 + nI s = nI (m * 10 + s) := by
  rw [show (10 : Int32) = nI 10 from rfl, pk_mul, nI_add]
theorem il_rebind9 {s : Nat} (hs : s < 10) : ∀ (l : List Nat) (h b : Int32) (i : Nat) (a2 : Nat → Int32), il_D a9 a10 h b l → (∀ q, q ∈ l → a3 q = nI s) → i + l.length ≤ 48 →
    ∃ b2, (∀ q, q ∈ l → b2 q = il_b (a6 s) (a4 q)) ∧ (∀ q, q ∉ l → b2 q = a2 q) ∧ ∀ post : St1 → Prop, post (a1, b2, a3, a4, a5, a6, a7, a8, a9, a10) → ∃ n, wX_rebind_9 post n h (nI i) a1 a2 a3 a4 a5 a6 a7 a8 a9 a10 := by
  intro l
  induction l with
  | nil =>
    intro h b i a2 d _ _
    refine ⟨a2, fun q hq => absurd hq (by simp), fun _ _ => rfl, fun post H => ⟨0 + 1, ?_⟩⟩
    have d' : h = -4 := d
    rw [d']
    exact br_c (fun _ => H) (fun _ => br_t il_4neg H)
  | cons p l ih =>
    intro h b i a2 d hm hl
    obtain ⟨k1, k2, k3, k4⟩ := d
    rw [List.length_cons] at hl
    obtain ⟨b2, q1, q2, q3⟩ := ih (a9 p) (nI p) (i + 1) (upd a2 p (il_b (a6 s) (a4 p))) k4 (fun q hq => hm q (List.mem_cons_of_mem _ hq)) (by omega)
    refine ⟨b2, fun q hq => ?_, fun q hq => ?_, fun post H => ?_⟩
    · by_cases c : q ∈ l
      · exact q1 q c
      · have e : q = p := by
          rcases List.mem_cons.mp hq with z | z
          · exact z
          · exact absurd z c
        rw [q2 q c, e, pk_us]
    · rw [List.mem_cons] at hq
      rw [q2 q (fun z => hq (Or.inr z)), pk_un (fun z => hq (Or.inl z))]
    · obtain ⟨n, hn⟩ := q3 post H
      refine ⟨n + 1, ?_⟩
      rw [k1]
      exact pk_le 48 i (fun z => absurd z (by omega)) (fun _ => br_f (nI_pos (by omega)) (il_w_bind k2 hs (hm p (by simp)) ⟨pk_in p 48 k2, nm_r (e' := a9 p) (by rw [nI_clamp (by omega)]) (nm_r (nI_1 i) hn)⟩))
theorem il_rebind {s : Nat} (hs : s < 10) (hC : il_C a3 a8 a9 a10) :
    ∃ b2, (∀ q, q < 48 → a3 q = nI s → b2 q = il_b (a6 s) (a4 q)) ∧ (∀ q, ¬ (q < 48 ∧ a3 q = nI s) → b2 q = a2 q) ∧ ∀ post : St1 → Prop, post (a1, b2, a3, a4, a5, a6, a7, a8, a9, a10) → wpX_rebind post (a1, a2, a3, a4, a5, a6, a7, a8, a9, a10) (nI s) := by
  obtain ⟨l, nd, dl, mem⟩ := hC s hs
  have len : l.length ≤ 48 := il_len nd (fun q hq => ((mem q).mp hq).1)
  obtain ⟨b2, q1, q2, q3⟩ := il_rebind9 (a1 := a1) (a3 := a3) (a4 := a4) (a5 := a5) (a6 := a6) (a7 := a7) (a8 := a8) hs l (a8 s) (-4) 0 a2 dl (fun q hq => ((mem q).mp hq).2) (by omega)
  refine ⟨b2, fun q h1 h2 => q1 q ((mem q).mpr ⟨h1, h2⟩), fun q hq => q2 q (fun z => hq ((mem q).mp z)), fun post H => ?_⟩
  unfold wpX_rebind
  rw [nI_clamp (show s < 2 ^ 31 by omega)]
  exact ⟨pk_in s 10 hs, nm_e (q3 post H)⟩
/-! whose definition counts, and where the name is -/
def il_wf (a5 : Nat → Int32) (s : Nat) : Nat → Int32 → Int32
  | 0, w => w
  | j + 1, w => il_wf a5 s j (if a5 (j * 10 + s) < 0 then w else nI j)
def il_who (a5 : Nat → Int32) (s : Nat) : Int32 := il_wf a5 s 6 (-4)
def il_av (a1 a5 : Nat → Int32) (s : Nat) (w : Int32) : Int32 := if 0 ≤ w then a1 w.toNatClampNeg + a5 (w.toNatClampNeg * 10 + s) else -4
def il_at (a1 a5 : Nat → Int32) (s : Nat) : Int32 := il_av a1 a5 s (il_who a5 s)
theorem il_wf_p {s : Nat} : ∀ (j : Nat) (w : Int32), il_wf a5 s j w = w ∨ ∃ m, m < j ∧ il_wf a5 s j w = nI m ∧ ¬ a5 (m * 10 + s) < 0 := by
  intro j
  induction j with
  | zero => exact fun w => Or.inl rfl
  | succ j ih =>
    intro w
    have e : il_wf a5 s (j + 1) w = il_wf a5 s j (if a5 (j * 10 + s) < 0 then w else nI j) := rfl
    rw [e]
    by_cases c : a5 (j * 10 + s) < 0
    · rw [if_pos c]
      rcases ih w with z | ⟨m, m1, m2, m3⟩
      · exact Or.inl z
      · exact Or.inr ⟨m, by omega, m2, m3⟩
    · rw [if_neg c]
      rcases ih (nI j) with z | ⟨m, m1, m2, m3⟩
      · exact Or.inr ⟨j, by omega, z, c⟩
      · exact Or.inr ⟨m, by omega, m2, m3⟩
theorem il_who_p (a5 : Nat → Int32) (s : Nat) : il_who a5 s = -4 ∨ ∃ m, m < 6 ∧ il_who a5 s = nI m ∧ ¬ a5 (m * 10 + s) < 0 := il_wf_p 6 (-4)
theorem il_ref70 {s : Nat} (hs : s < 10) (who wa : Int32) (hw : il_W a3 a2 a4 a6 a8 a9 a10) :
    ∃ b2, il_W a3 b2 a4 (upd a6 s wa) a8 a9 a10 ∧ (∀ q, a3 q = -4 → b2 q = a2 q) ∧
      ∀ (post : St1 → Prop) (J2 : Int32 → (Nat → Int32) → (Nat → Int32) → (Nat → Int32) → (Nat → Int32) → (Nat → Int32) → (Nat → Int32) → (Nat → Int32) → (Nat → Int32) → (Nat → Int32) → (Nat → Int32) → Prop),
        J2 (nI (s + 1)) a1 b2 a3 a4 a5 (upd a6 s wa) (upd a7 s who) a8 a9 a10 → wX_refresh_70 post J2 (nI s) who wa a1 a2 a3 a4 a5 a6 a7 a8 a9 a10 := by
  by_cases c : wa = a6 s
  · have e : upd a6 s wa = a6 := il_uself a6 s wa c.symm
    rw [e]
    refine ⟨a2, hw, fun _ _ => rfl, fun post J2 H => ?_⟩
    unfold wX_refresh_70
    rw [nI_clamp (show s < 2 ^ 31 by omega)]
    exact ⟨pk_in s 10 hs, nm_e ⟨pk_in s 10 hs, br_t c (nm_r (nI_1 s) H)⟩⟩
  · obtain ⟨hN, hV, hC⟩ := hw
    obtain ⟨b2, q1, q2, q3⟩ := il_rebind (a1 := a1) (a2 := a2) (a4 := a4) (a5 := a5) (a6 := upd a6 s wa) (a7 := upd a7 s who) hs hC
    refine ⟨b2, ⟨hN, ?_, hC⟩, ?_, fun post J2 H => ?_⟩
    · intro p t hp ht h
      by_cases e : t = s
      · rw [e] at h ⊢
        exact q1 p hp h
      · rw [pk_un e, q2 p (fun z => e (il_inj (by omega) (by omega) (h.symm.trans z.2)))]
        exact hV p t hp ht h
    · intro q hq
      exact q2 q (fun z => il_4n (by omega) (hq.symm.trans z.2))
    · unfold wX_refresh_70
      rw [nI_clamp (show s < 2 ^ 31 by omega)]
      exact ⟨pk_in s 10 hs, nm_e ⟨pk_in s 10 hs, br_f c ⟨pk_in s 10 hs, nm_e (q3 _ (nm_r (nI_1 s) H))⟩⟩⟩
theorem il_ref13 {s : Nat} (hs : s < 10) (post : St1 → Prop) (J2 : Int32 → (Nat → Int32) → (Nat → Int32) → (Nat → Int32) → (Nat → Int32) → (Nat → Int32) → (Nat → Int32) → (Nat → Int32) → (Nat → Int32) → (Nat → Int32) → (Nat → Int32) → Prop) :
    ∀ (j : Nat) (w : Int32), j ≤ 6 → (w = -4 ∨ ∃ m, m < 6 ∧ w = nI m) → wX_refresh_70 post J2 (nI s) (il_wf a5 s j w) (il_av a1 a5 s (il_wf a5 s j w)) a1 a2 a3 a4 a5 a6 a7 a8 a9 a10 →
      ∃ n, wX_refresh_13 post J2 (nI s) a1 a2 a3 a4 a5 a6 a7 a8 a9 a10 n w (nI j + (-1)) := by
  intro j
  induction j with
  | zero =>
    intro w _ hw H
    refine ⟨0 + 1, br_t (by decide) ?_⟩
    have e : il_wf a5 s 0 w = w := rfl
    rw [e] at H
    rcases hw with z | ⟨m, m1, m2⟩
    · subst z
      exact br_f (by decide) H
    · subst m2
      have e2 : il_av a1 a5 s (nI m) = a1 (nI m).toNatClampNeg + a5 (nI m * 10 + nI s).toNatClampNeg := by
        unfold il_av
        rw [if_pos (nI_pos' (by omega)), il_ix, nI_clamp (show m < 2 ^ 31 by omega), nI_clamp (show m * 10 + s < 2 ^ 31 by omega)]
      rw [e2] at H
      exact br_t (nI_pos' (by omega)) ⟨pk_in m 7 (by omega), pk_in (m * 10 + s) 60 (by omega) (il_ix m s), H⟩
  | succ j ih =>
    intro w hj hw H
    have e : il_wf a5 s (j + 1) w = il_wf a5 s j (if a5 (j * 10 + s) < 0 then w else nI j) := rfl
    rw [e] at H
    obtain ⟨n, hn⟩ := ih _ (by omega) (by
      by_cases c : a5 (j * 10 + s) < 0
      · rw [if_pos c]
        exact hw
      · rw [if_neg c]
        exact Or.inr ⟨j, by omega, rfl⟩) H
    refine ⟨n + 1, ?_⟩
    rw [pk_m1]
    refine br_f (nI_pos (by omega)) ⟨pk_in (j * 10 + s) 60 (by omega) (il_ix j s), ?_⟩
    rw [il_ix, nI_clamp (show j * 10 + s < 2 ^ 31 by omega)]
    by_cases c : a5 (j * 10 + s) < 0
    · rw [if_pos c] at hn
      exact br_t c (nm_e hn)
    · rw [if_neg c] at hn
      exact br_f c (nm_e hn)
theorem il_ref2 : ∀ (j s : Nat) (a2 a6 a7 : Nat → Int32), s + j = 10 → il_W a3 a2 a4 a6 a8 a9 a10 →
    ∃ b2 b6 b7, il_W a3 b2 a4 b6 a8 a9 a10 ∧ (∀ q, a3 q = -4 → b2 q = a2 q) ∧ (∀ t, s ≤ t → t < 10 → b6 t = il_at a1 a5 t ∧ b7 t = il_who a5 t) ∧ (∀ t, ¬ (s ≤ t ∧ t < 10) → b6 t = a6 t ∧ b7 t = a7 t) ∧
      ∀ post : St1 → Prop, post (a1, b2, a3, a4, a5, b6, b7, a8, a9, a10) → ∃ n, wX_refresh_2 post n (nI s) a1 a2 a3 a4 a5 a6 a7 a8 a9 a10 := by
  intro j
  induction j with
  | zero =>
    intro s a2 a6 a7 hj hw
    refine ⟨a2, a6, a7, hw, fun _ _ => rfl, fun t h1 h2 => absurd h1 (by omega), fun _ _ => ⟨rfl, rfl⟩, fun post H => ⟨0 + 1, ?_⟩⟩
    exact pk_le 10 s (fun _ => H) (fun z => absurd z (by omega))
  | succ j ih =>
    intro s a2 a6 a7 hj hw
    obtain ⟨c2, w1, w2, w3⟩ := il_ref70 (a1 := a1) (a5 := a5) (a7 := a7) (s := s) (by omega) (il_who a5 s) (il_at a1 a5 s) hw
    obtain ⟨b2, b6, b7, v1, v2, v3, v4, v5⟩ := ih (s + 1) c2 (upd a6 s (il_at a1 a5 s)) (upd a7 s (il_who a5 s)) (by omega) w1
    refine ⟨b2, b6, b7, v1, fun q hq => (v2 q hq).trans (w2 q hq), fun t h1 h2 => ?_, fun t ht => ?_, fun post H => ?_⟩
    · by_cases e : t = s
      · have k := v4 t (by omega)
        rw [e] at k ⊢
        rw [pk_us, pk_us] at k
        exact k
      · exact v3 t (by omega) h2
    · have k := v4 t (by omega)
      rw [pk_un (show t ≠ s by omega), pk_un (show t ≠ s by omega)] at k
      exact k
    · obtain ⟨n, hn⟩ := v5 post H
      refine ⟨n + 1, pk_le 10 s (fun z => absurd z (by omega)) (fun _ => ?_)⟩
      exact il_ref13 (by omega) post (wX_refresh_2 post n) 6 (-4) (by omega) (Or.inl rfl) (w3 post _ hn)
theorem il_refresh (a1 a5 a7 : Nat → Int32) (hw : il_W a3 a2 a4 a6 a8 a9 a10) :
    ∃ b2 b6 b7, il_W a3 b2 a4 b6 a8 a9 a10 ∧ (∀ q, a3 q = -4 → b2 q = a2 q) ∧ (∀ t, t < 10 → b6 t = il_at a1 a5 t ∧ b7 t = il_who a5 t) ∧ (∀ t, 10 ≤ t → b6 t = a6 t ∧ b7 t = a7 t) ∧
      ∀ post : St1 → Prop, post (a1, b2, a3, a4, a5, b6, b7, a8, a9, a10) → wpX_refresh post (a1, a2, a3, a4, a5, a6, a7, a8, a9, a10) := by
  obtain ⟨b2, b6, b7, v1, v2, v3, v4, v5⟩ := il_ref2 (a1 := a1) (a5 := a5) 10 0 a2 a6 a7 rfl hw
  exact ⟨b2, b6, b7, v1, v2, fun t ht => v3 t (by omega) ht, fun t ht => v4 t (by omega), fun post H => v5 post H⟩
end
end
section
section
variable {a1 a2 a3 a4 a5 a6 a7 a8 a9 a10 : Nat → Int32}
def il_up (f : Nat → Int32) (p n : Nat) : Nat → Int32 := fun q => if p < q ∧ q ≤ n then f (q - 1) else f q
def il_dn (f : Nat → Int32) (p n : Nat) : Nat → Int32 := fun q => if p ≤ q ∧ q + 1 < n then f (q + 1) else f q
def il_s1 (f : Nat → Int32) (k : Nat) : Nat → Int32 := fun i => if k ≤ i ∧ i ≤ 6 then f i + 1 else f i
def il_s2 (f : Nat → Int32) (k : Nat) : Nat → Int32 := fun i => if k ≤ i ∧ i ≤ 6 then f i - 1 else f i
theorem il_s1_end (f : Nat → Int32) : il_s1 f 7 = f := by
  funext i
  simp only [il_s1]
  rw [if_neg (by omega)]
theorem il_s2_end (f : Nat → Int32) : il_s2 f 7 = f := by
  funext i
  simp only [il_s2]
  rw [if_neg (by omega)]
theorem il_s1_step (f : Nat → Int32) {k : Nat} (hk : k ≤ 6) : il_s1 (upd f k (f k + 1)) (k + 1) = il_s1 f k := by
  funext i
  simp only [il_s1]
  by_cases e : i = k
  · rw [e, if_neg (by omega), if_pos (by omega), pk_us]
  · rw [pk_un e]
    by_cases c : k ≤ i ∧ i ≤ 6
    · rw [if_pos c, if_pos (by omega)]
    · rw [if_neg c, if_neg (by omega)]
theorem il_s2_step (f : Nat → Int32) {k : Nat} (hk : k ≤ 6) : il_s2 (upd f k (f k - 1)) (k + 1) = il_s2 f k := by
  funext i
  simp only [il_s2]
  by_cases e : i = k
  · rw [e, if_neg (by omega), if_pos (by omega), pk_us]
  · rw [pk_un e]
    by_cases c : k ≤ i ∧ i ≤ 6
    · rw [if_pos c, if_pos (by omega)]
    · rw [if_neg c, if_neg (by omega)]
theorem il_op33 {post : St1 → Prop} : ∀ (j k : Nat) (a1 : Nat → Int32), k + j = 7 → post (il_s1 a1 k, a2, a3, a4, a5, a6, a7, a8, a9, a10) → ∃ n, wX_open_33 post n (nI k) a1 a2 a3 a4 a5 a6 a7 a8 a9 a10 := by
  intro j
  induction j with
  | zero =>
    intro k a1 hk H
    have e : k = 7 := by omega
    subst e
    rw [il_s1_end] at H
    exact ⟨0 + 1, pk_lt 6 7 (fun _ => H) (fun z => absurd z (by omega))⟩
  | succ j ih =>
    intro k a1 hk H
    rw [← il_s1_step a1 (show k ≤ 6 by omega)] at H
    obtain ⟨n, hn⟩ := ih (k + 1) _ (by omega) H
    exact ⟨n + 1, pk_lt 6 k (fun z => absurd z (by omega)) (fun _ => ⟨pk_in k 7 (by omega), pk_in k 7 (by omega), nm_r (e' := upd a1 k (a1 k + 1)) (by rw [nI_clamp (by omega)]) (nm_r (nI_1 k) hn)⟩)⟩
theorem il_cl61 {post : St1 → Prop} : ∀ (j k : Nat) (a1 : Nat → Int32), k + j = 7 → post (il_s2 a1 k, a2, a3, a4, a5, a6, a7, a8, a9, a10) → ∃ n, wX_close_61 post n (nI k) a1 a2 a3 a4 a5 a6 a7 a8 a9 a10 := by
  intro j
  induction j with
  | zero =>
    intro k a1 hk H
    have e : k = 7 := by omega
    subst e
    rw [il_s2_end] at H
    exact ⟨0 + 1, pk_lt 6 7 (fun _ => H) (fun z => absurd z (by omega))⟩
  | succ j ih =>
    intro k a1 hk H
    rw [← il_s2_step a1 (show k ≤ 6 by omega)] at H
    obtain ⟨n, hn⟩ := ih (k + 1) _ (by omega) H
    exact ⟨n + 1, pk_lt 6 k (fun z => absurd z (by omega)) (fun _ => ⟨pk_in k 7 (by omega), pk_in k 7 (by omega), nm_r (e' := upd a1 k (a1 k - 1)) (by rw [nI_clamp (by omega)]) (nm_r (nI_1 k) hn)⟩)⟩
theorem il_up0 (f : Nat → Int32) (p : Nat) : il_up f p p = f := by
  funext q
  simp only [il_up]
  rw [if_neg (by omega)]
theorem il_dn0 (f : Nat → Int32) (p : Nat) : il_dn f p (p + 1) = f := by
  funext q
  simp only [il_dn]
  rw [if_neg (by omega)]
theorem il_up_step (f : Nat → Int32) (p j : Nat) : il_up (upd f (p + (j + 1)) (f (p + j))) p (p + j) = il_up f p (p + (j + 1)) := by
  funext q
  simp only [il_up]
  by_cases c : p < q ∧ q ≤ p + j
  · rw [if_pos c, if_pos (by omega), pk_un (by omega)]
  · rw [if_neg c]
    by_cases e : q = p + (j + 1)
    · rw [e, pk_us, if_pos (by omega), show p + (j + 1) - 1 = p + j by omega]
    · rw [pk_un e, if_neg (by omega)]
theorem il_up_name (f : Nat → Int32) (p j : Nat) : upd (il_up (upd (upd f (p + (j + 1)) (f (p + j))) (p + j) (-4)) p (p + j)) p (-4) = upd (il_up f p (p + (j + 1))) p (-4) := by
  funext q
  by_cases e0 : q = p
  · rw [e0, pk_us, pk_us]
  · rw [pk_un e0, pk_un e0]
    simp only [il_up]
    by_cases c : p < q ∧ q ≤ p + j
    · rw [if_pos c, if_pos (by omega), pk_un (by omega), pk_un (by omega)]
    · rw [if_neg c]
      by_cases e : q = p + (j + 1)
      · rw [e, pk_un (by omega), pk_us, if_pos (by omega), show p + (j + 1) - 1 = p + j by omega]
      · rw [if_neg (by omega), pk_un (by omega), pk_un e]
theorem il_dn_step (f : Nat → Int32) (p n : Nat) (h : p + 2 ≤ n) : il_dn (upd f p (f (p + 1))) (p + 1) n = il_dn f p n := by
  funext q
  simp only [il_dn]
  by_cases e : q = p
  · rw [e, if_neg (by omega), if_pos (by omega), pk_us]
  · by_cases c : p ≤ q ∧ q + 1 < n
    · rw [if_pos c, if_pos (by omega), pk_un (by omega)]
    · rw [if_neg c, if_neg (by omega), pk_un e]
theorem il_dn_name (f : Nat → Int32) (p n : Nat) (h : p + 2 ≤ n) : upd (il_dn (upd (upd f p (f (p + 1))) (p + 1) (-4)) (p + 1) n) (n - 1) (-4) = upd (il_dn f p n) (n - 1) (-4) := by
  funext q
  by_cases e0 : q = n - 1
  · rw [e0, pk_us, pk_us]
  · rw [pk_un e0, pk_un e0]
    simp only [il_dn]
    by_cases e : q = p
    · rw [e, if_neg (by omega), if_pos (by omega), pk_un (by omega), pk_us]
    · by_cases c : p ≤ q ∧ q + 1 < n
      · rw [if_pos c, if_pos (by omega), pk_un (by omega), pk_un (by omega)]
      · rw [if_neg c, if_neg (by omega), pk_un (by omega), pk_un e]
theorem il_dn_first (f : Nat → Int32) (p n : Nat) (h : p + 1 ≤ n) : upd (il_dn (upd f p (-4)) p n) (n - 1) (-4) = upd (il_dn f p n) (n - 1) (-4) := by
  funext q
  by_cases e0 : q = n - 1
  · rw [e0, pk_us, pk_us]
  · rw [pk_un e0, pk_un e0]
    simp only [il_dn]
    by_cases c : p ≤ q ∧ q + 1 < n
    · rw [if_pos c, if_pos c, pk_un (by omega)]
    · rw [if_neg c, if_neg c, pk_un (by omega)]
theorem il_lt1 {p : Nat} (h : p < 2 ^ 31) : nI p + (-1) < nI p := by
  cases p with
  | zero => decide
  | succ p =>
    rw [pk_m1]
    exact nI_lt (by omega) h
theorem il_op10 {p : Nat} {x1 : Int32} : ∀ (j : Nat) (a2 a3 a4 a8 a9 a10 : Nat → Int32), p + j < 48 → il_W a3 a2 a4 a6 a8 a9 a10 → a3 (p + j) = -4 →
    ∃ b8 b9 b10, il_W (upd (il_up a3 p (p + j)) p (-4)) (il_up a2 p (p + j)) (il_up a4 p (p + j)) a6 b8 b9 b10 ∧
      ∀ post : St1 → Prop, (∃ fu, wX_open_33 post fu (x1 + 1) a1 (il_up a2 p (p + j)) (upd (il_up a3 p (p + j)) p (-4)) (il_up a4 p (p + j)) a5 a6 a7 b8 b9 b10) →
        ∃ n, wX_open_10 post x1 (nI p) n (nI (p + j) + (-1)) a1 a2 a3 a4 a5 a6 a7 a8 a9 a10 := by
  intro j
  induction j with
  | zero =>
    intro a2 a3 a4 a8 a9 a10 h1 hw h4
    rw [Nat.add_zero] at h1 h4 ⊢
    rw [il_up0, il_up0, il_up0, il_uself a3 p (-4) h4]
    exact ⟨a8, a9, a10, hw, fun post H => ⟨0 + 1, br_t (il_lt1 (by omega)) (nm_e H)⟩⟩
  | succ j ih =>
    intro a2 a3 a4 a8 a9 a10 h1 hw h4
    obtain ⟨c8, c9, c10, w1, w2⟩ := il_move (a1 := a1) (a5 := a5) (a7 := a7) (f := p + j) (t := p + (j + 1)) (by omega) (by omega) (by omega) hw h4
    obtain ⟨b8, b9, b10, v1, v2⟩ := ih _ _ _ c8 c9 c10 (by omega) w1 pk_us
    rw [il_up_step, il_up_step, il_up_name] at v1
    rw [il_up_step, il_up_step, il_up_name] at v2
    refine ⟨b8, b9, b10, v1, fun post H => ?_⟩
    obtain ⟨n, hn⟩ := v2 post H
    refine ⟨n + 1, ?_⟩
    rw [show p + (j + 1) = (p + j) + 1 from rfl, pk_m1]
    refine br_f (nI_nlt (by omega) (by omega)) ?_
    rw [nI_1]
    exact w2 _ (nm_e hn)
theorem il_open (a1 a5 a7 : Nat → Int32) {m p n : Nat} (hm : m < 6) (hp : p ≤ n) (hn : n < 48) (h6 : a1 6 = nI n) (hw : il_W a3 a2 a4 a6 a8 a9 a10) (h4 : a3 n = -4) :
    ∃ b8 b9 b10, il_W (upd (il_up a3 p n) p (-4)) (il_up a2 p n) (il_up a4 p n) a6 b8 b9 b10 ∧
      ∀ post : St1 → Prop, post (il_s1 a1 (m + 1), il_up a2 p n, upd (il_up a3 p n) p (-4), il_up a4 p n, a5, a6, a7, b8, b9, b10) → wpX_open post (a1, a2, a3, a4, a5, a6, a7, a8, a9, a10) (nI m) (nI p) := by
  obtain ⟨j, rfl⟩ : ∃ j, n = p + j := ⟨n - p, by omega⟩
  obtain ⟨b8, b9, b10, v1, v2⟩ := il_op10 (a1 := a1) (a5 := a5) (a7 := a7) (x1 := nI m) j a2 a3 a4 a8 a9 a10 hn hw h4
  refine ⟨b8, b9, b10, v1, fun post H => ?_⟩
  unfold wpX_open
  refine nm_r (e' := nI (p + j) + (-1)) (by rw [h6, il_sub1]) (v2 post ?_)
  rw [nI_1]
  exact il_op33 (6 - m) (m + 1) a1 (by omega) H
theorem il_cl32 {x1 : Int32} {n : Nat} (hn : n ≤ 48) (h6 : a1 6 = nI n) : ∀ (j p : Nat) (a2 a3 a4 a8 a9 a10 : Nat → Int32), p + 1 + j = n → il_W a3 a2 a4 a6 a8 a9 a10 → a3 p = -4 →
    ∃ b8 b9 b10, il_W (upd (il_dn a3 p n) (n - 1) (-4)) (il_dn a2 p n) (il_dn a4 p n) a6 b8 b9 b10 ∧
      ∀ post : St1 → Prop, (∃ fu, wX_close_61 post fu (x1 + 1) a1 (il_dn a2 p n) (upd (il_dn a3 p n) (n - 1) (-4)) (il_dn a4 p n) a5 a6 a7 b8 b9 b10) →
        ∃ k, wX_close_32 post x1 k (nI (p + 1)) a1 a2 a3 a4 a5 a6 a7 a8 a9 a10 := by
  intro j
  induction j with
  | zero =>
    intro p a2 a3 a4 a8 a9 a10 h1 hw h4
    have e : n = p + 1 := by omega
    subst e
    rw [il_dn0, il_dn0, il_dn0, show p + 1 - 1 = p by omega, il_uself a3 p (-4) h4]
    exact ⟨a8, a9, a10, hw, fun post H => ⟨0 + 1, br_t (by rw [h6]; exact nI_le (by omega) (by omega)) (nm_e H)⟩⟩
  | succ j ih =>
    intro p a2 a3 a4 a8 a9 a10 h1 hw h4
    obtain ⟨c8, c9, c10, w1, w2⟩ := il_move (a1 := a1) (a5 := a5) (a7 := a7) (f := p + 1) (t := p) (by omega) (by omega) (by omega) hw h4
    obtain ⟨b8, b9, b10, v1, v2⟩ := ih (p + 1) _ _ _ c8 c9 c10 (by omega) w1 pk_us
    rw [il_dn_step _ _ _ (by omega), il_dn_step _ _ _ (by omega), il_dn_name _ _ _ (by omega)] at v1
    rw [il_dn_step _ _ _ (by omega), il_dn_step _ _ _ (by omega), il_dn_name _ _ _ (by omega)] at v2
    refine ⟨b8, b9, b10, v1, fun post H => ?_⟩
    obtain ⟨k, hk⟩ := v2 post H
    refine ⟨k + 1, ?_⟩
    refine br_f (by rw [h6]; exact nI_ge (by omega) (by omega)) ?_
    rw [nI_pred]
    exact w2 _ (nm_r (nI_1 (p + 1)) hk)
theorem il_close (a1 a5 a7 : Nat → Int32) {m p n : Nat} (hm : m < 6) (hp : p < n) (hn : n ≤ 48) (h6 : a1 6 = nI n) (hw : il_W a3 a2 a4 a6 a8 a9 a10) :
    ∃ b8 b9 b10, il_W (upd (il_dn a3 p n) (n - 1) (-4)) (il_dn a2 p n) (il_dn a4 p n) a6 b8 b9 b10 ∧
      ∀ post : St1 → Prop, post (il_s2 a1 (m + 1), il_dn a2 p n, upd (il_dn a3 p n) (n - 1) (-4), il_dn a4 p n, a5, a6, a7, b8, b9, b10) → wpX_close post (a1, a2, a3, a4, a5, a6, a7, a8, a9, a10) (nI m) (nI p) := by
  rcases hw.1 p (by omega) with z | ⟨s, hs, z⟩
  · obtain ⟨b8, b9, b10, v1, v2⟩ := il_cl32 (a5 := a5) (a7 := a7) (x1 := nI m) hn h6 (n - p - 1) p a2 a3 a4 a8 a9 a10 (by omega) hw z
    refine ⟨b8, b9, b10, v1, fun post H => ?_⟩
    unfold wpX_close
    rw [nI_clamp (show p < 2 ^ 31 by omega)]
    refine ⟨pk_in p 48 (by omega), br_t (by rw [z]; exact il_4neg) (nm_r (nI_1 p) (v2 post ?_))⟩
    rw [nI_1]
    exact il_cl61 (6 - m) (m + 1) a1 (by omega) H
  · obtain ⟨hN, hV, hC⟩ := hw
    obtain ⟨c8, c9, c10, w1, w2⟩ := il_unl (a1 := a1) (a2 := a2) (a4 := a4) (a5 := a5) (a6 := a6) (a7 := a7) (p := p) (by omega) hs hC z
    have W' : il_W (upd a3 p (-4)) a2 a4 a6 c8 c9 c10 := by
      refine ⟨fun q hq => ?_, fun q t hq ht h => ?_, w1⟩
      · by_cases e : q = p
        · exact Or.inl (by rw [e, pk_us])
        · rw [pk_un e]
          exact hN q hq
      · by_cases e : q = p
        · rw [e, pk_us] at h
          exact absurd h (il_4n (by omega))
        · rw [pk_un e] at h
          exact hV q t hq ht h
    obtain ⟨b8, b9, b10, v1, v2⟩ := il_cl32 (a5 := a5) (a7 := a7) (x1 := nI m) hn h6 (n - p - 1) p a2 _ a4 c8 c9 c10 (by omega) W' pk_us
    rw [il_dn_first _ _ _ (by omega)] at v1
    rw [il_dn_first _ _ _ (by omega)] at v2
    refine ⟨b8, b9, b10, v1, fun post H => ?_⟩
    unfold wpX_close
    rw [nI_clamp (show p < 2 ^ 31 by omega)]
    refine ⟨pk_in p 48 (by omega), br_f (by rw [z]; exact nI_pos (by omega)) ⟨pk_in p 48 (by omega), ?_⟩⟩
    rw [z]
    refine w2 _ ⟨pk_in p 48 (by omega), nm_e (nm_r (nI_1 p) (v2 post ?_))⟩
    rw [nI_1]
    exact il_cl61 (6 - m) (m + 1) a1 (by omega) H
end
end
section
section
variable {a1 a2 a3 a4 a5 a6 a7 a8 a9 a10 : Nat → Int32} {st : Nat → Nat} {m : Nat}
def il_S (a1 : Nat → Int32) (st : Nat → Nat) : Prop := (∀ i, i < 7 → a1 i = nI (st i)) ∧ st 0 = 0 ∧ ∀ i, i < 6 → st i ≤ st (i + 1) ∧ st (i + 1) ≤ st i + 8
def il_F (a5 : Nat → Int32) (st : Nat → Nat) : Prop := ∀ m s, m < 6 → s < 10 → a5 (m * 10 + s) = -4 ∨ ∃ d, st m + d ≤ st (m + 1) ∧ a5 (m * 10 + s) = nI d
def il_E (a3 : Nat → Int32) (n : Nat) : Prop := ∀ p, n ≤ p → p < 48 → a3 p = -4
def il_K (a1 a5 a6 a7 : Nat → Int32) : Prop := ∀ s, s < 10 → a6 s = il_at a1 a5 s ∧ a7 s = il_who a5 s
def il_I (st : Nat → Nat) (a1 a2 a3 a4 a5 a6 a7 a8 a9 a10 : Nat → Int32) : Prop := il_S a1 st ∧ il_W a3 a2 a4 a6 a8 a9 a10 ∧ il_E a3 (st 6) ∧ il_F a5 st ∧ il_K a1 a5 a6 a7
def il_Ok (W : (Int32 → St1 → Prop) → Prop) : Prop := ∃ (r : Int32) (st : Nat → Nat) (b1 b2 b3 b4 b5 b6 b7 b8 b9 b10 : Nat → Int32), il_I st b1 b2 b3 b4 b5 b6 b7 b8 b9 b10 ∧ ∀ post, post r (b1, b2, b3, b4, b5, b6, b7, b8, b9, b10) → W post
theorem il_mono (h : ∀ i, i < 6 → st i ≤ st (i + 1)) {i : Nat} : ∀ j, i ≤ j → j ≤ 6 → st i ≤ st j := by
  intro j
  induction j with
  | zero =>
    intro h1 _
    rw [show i = 0 by omega]
    exact Nat.le_refl _
  | succ j ih =>
    intro h1 h2
    by_cases e : i = j + 1
    · rw [e]
      exact Nat.le_refl _
    · exact Nat.le_trans (ih (by omega) (by omega)) (h j (by omega))
theorem il_S_mono (hS : il_S a1 st) {i j : Nat} (h : i ≤ j) (hj : j ≤ 6) : st i ≤ st j := il_mono (fun i hi => (hS.2.2 i hi).1) j h hj
theorem il_size (hS : il_S a1 st) : st 6 ≤ 48 := by
  obtain ⟨_, h0, h⟩ := hS
  have h1 : st 0 ≤ st 1 ∧ st 1 ≤ st 0 + 8 := h 0 (by omega)
  have h2 : st 1 ≤ st 2 ∧ st 2 ≤ st 1 + 8 := h 1 (by omega)
  have h3 : st 2 ≤ st 3 ∧ st 3 ≤ st 2 + 8 := h 2 (by omega)
  have h4 : st 3 ≤ st 4 ∧ st 4 ≤ st 3 + 8 := h 3 (by omega)
  have h5 : st 4 ≤ st 5 ∧ st 5 ≤ st 4 + 8 := h 4 (by omega)
  have h6 : st 5 ≤ st 6 ∧ st 6 ≤ st 5 + 8 := h 5 (by omega)
  omega
theorem il_room (hS : il_S a1 st) (hm : m < 6) (hr : st (m + 1) < st m + 8) : st 6 < 48 := by
  obtain ⟨_, h0, h⟩ := hS
  have h1 : st 0 ≤ st 1 ∧ st 1 ≤ st 0 + 8 := h 0 (by omega)
  have h2 : st 1 ≤ st 2 ∧ st 2 ≤ st 1 + 8 := h 1 (by omega)
  have h3 : st 2 ≤ st 3 ∧ st 3 ≤ st 2 + 8 := h 2 (by omega)
  have h4 : st 3 ≤ st 4 ∧ st 4 ≤ st 3 + 8 := h 3 (by omega)
  have h5 : st 4 ≤ st 5 ∧ st 5 ≤ st 4 + 8 := h 4 (by omega)
  have h6 : st 5 ≤ st 6 ∧ st 6 ≤ st 5 + 8 := h 5 (by omega)
  have hc : m = 0 ∨ m = 1 ∨ m = 2 ∨ m = 3 ∨ m = 4 ∨ m = 5 := by omega
  rcases hc with rfl | rfl | rfl | rfl | rfl | rfl
  · have hr' : st 1 < st 0 + 8 := hr
    omega
  · have hr' : st 2 < st 1 + 8 := hr
    omega
  · have hr' : st 3 < st 2 + 8 := hr
    omega
  · have hr' : st 4 < st 3 + 8 := hr
    omega
  · have hr' : st 5 < st 4 + 8 := hr
    omega
  · have hr' : st 6 < st 5 + 8 := hr
    omega
theorem il_fresh (a7 : Nat → Int32) (hS : il_S a1 st) (hW : il_W a3 a2 a4 a6 a8 a9 a10) (hE : il_E a3 (st 6)) (hF : il_F a5 st) :
    ∃ b2 b6 b7, il_I st a1 b2 a3 a4 a5 b6 b7 a8 a9 a10 ∧ (∀ q, a3 q = -4 → b2 q = a2 q) ∧ (∀ t, 10 ≤ t → b6 t = a6 t ∧ b7 t = a7 t) ∧
      ∀ post : St1 → Prop, post (a1, b2, a3, a4, a5, b6, b7, a8, a9, a10) → wpX_refresh post (a1, a2, a3, a4, a5, a6, a7, a8, a9, a10) := by
  obtain ⟨b2, b6, b7, v1, v2, v3, v4, v5⟩ := il_refresh a1 a5 a7 hW
  exact ⟨b2, b6, b7, ⟨hS, v1, hE, hF, v3⟩, v2, v4, v5⟩
/-! small methods -/
theorem il_w_bad {post : Int32 → Prop} {u : St1} (hm : m < 6) (H : post 0) : wpX_bad post u (nI m) := by
  obtain ⟨a1, a2, a3, a4, a5, a6, a7, a8, a9, a10⟩ := u
  exact br_f (nI_pos (by omega)) (br_t (nI_lt (b := 6) hm (by decide)) H)
theorem il_w_badName {post : Int32 → Prop} {u : St1} (hm : m < 10) (H : post 0) : wpX_badName post u (nI m) := by
  obtain ⟨a1, a2, a3, a4, a5, a6, a7, a8, a9, a10⟩ := u
  exact br_f (nI_pos (by omega)) (br_t (nI_lt (b := 10) hm (by decide)) H)
theorem il_w_words {post : Int32 → Prop} (hS : il_S a1 st) (hm : m < 6) (H : post (nI (st (m + 1) - st m))) : wpX_words post (a1, a2, a3, a4, a5, a6, a7, a8, a9, a10) (nI m) := by
  unfold wpX_words
  dsimp only
  rw [nI_1, nI_clamp (show m + 1 < 2 ^ 31 by omega), nI_clamp (show m < 2 ^ 31 by omega), hS.1 (m + 1) (by omega), hS.1 m (by omega), pk_sub (hS.2.2 m hm).1]
  exact ⟨pk_in (m + 1) 7 (by omega), pk_in m 7 (by omega), H⟩
/-! the starts move -/
def il_t1 (st : Nat → Nat) (m : Nat) : Nat → Nat := fun i => if m < i then st i + 1 else st i
def il_t2 (st : Nat → Nat) (m : Nat) : Nat → Nat := fun i => if m < i then st i - 1 else st i
theorem il_t1_hi {i : Nat} (h : m < i) : il_t1 st m i = st i + 1 := if_pos h
theorem il_t1_lo {i : Nat} (h : i ≤ m) : il_t1 st m i = st i := if_neg (by omega)
theorem il_t2_hi {i : Nat} (h : m < i) : il_t2 st m i = st i - 1 := if_pos h
theorem il_t2_lo {i : Nat} (h : i ≤ m) : il_t2 st m i = st i := if_neg (by omega)
theorem il_S_up (hS : il_S a1 st) (hr : st (m + 1) < st m + 8) : il_S (il_s1 a1 (m + 1)) (il_t1 st m) := by
  refine ⟨fun i hi => ?_, ?_, fun i hi => ?_⟩
  · simp only [il_s1]
    by_cases c : m < i
    · rw [if_pos (by omega), il_t1_hi c, hS.1 i hi, nI_1]
    · rw [if_neg (by omega), il_t1_lo (by omega), hS.1 i hi]
  · rw [il_t1_lo (by omega)]
    exact hS.2.1
  · have k := hS.2.2 i hi
    by_cases c : m < i
    · rw [il_t1_hi c, il_t1_hi (by omega)]
      omega
    · by_cases e : i = m
      · subst e
        rw [il_t1_lo (by omega), il_t1_hi (by omega)]
        omega
      · rw [il_t1_lo (by omega), il_t1_lo (by omega)]
        exact k
theorem il_S_dn (hS : il_S a1 st) (hm : m < 6) (hr : st m < st (m + 1)) : il_S (il_s2 a1 (m + 1)) (il_t2 st m) := by
  have pos : ∀ i, m < i → i < 7 → 1 ≤ st i := fun i h1 h2 => by
    have k := il_S_mono hS (i := m + 1) (j := i) (by omega) (by omega)
    omega
  refine ⟨fun i hi => ?_, ?_, fun i hi => ?_⟩
  · simp only [il_s2]
    by_cases c : m < i
    · have k := pos i c hi
      rw [if_pos (by omega), il_t2_hi c, hS.1 i hi]
      obtain ⟨x, hx⟩ : ∃ x, st i = x + 1 := ⟨st i - 1, by omega⟩
      rw [hx, nI_pred, show x + 1 - 1 = x by omega]
    · rw [if_neg (by omega), il_t2_lo (by omega), hS.1 i hi]
  · rw [il_t2_lo (by omega)]
    exact hS.2.1
  · have k := hS.2.2 i hi
    by_cases c : m < i
    · have k2 := pos i c (by omega)
      rw [il_t2_hi c, il_t2_hi (by omega)]
      omega
    · by_cases e : i = m
      · subst e
        rw [il_t2_lo (by omega), il_t2_hi (by omega)]
        omega
      · rw [il_t2_lo (by omega), il_t2_lo (by omega)]
        exact k
/-! a word is put -/
theorem il_W_put0 {nm va ad kn hd nx bf : Nat → Int32} {p : Nat} (v x : Int32) (h : il_W nm va ad kn hd nx bf) (hp : nm p = -4) : il_W nm (upd va p v) (upd ad p x) kn hd nx bf := by
  refine ⟨h.1, fun q s hq hs hn => ?_, h.2.2⟩
  have e : q ≠ p := by
    intro e
    rw [e, hp] at hn
    exact il_4n (by omega) hn
  rw [pk_un e, pk_un e]
  exact h.2.1 q s hq hs hn
theorem il_W_putS {nm va ad kn hd nx bf : Nat → Int32} {p s : Nat} (x : Int32) (hp : p < 48) (hs : s < 10) (h : il_W nm va ad kn hd nx bf) (h4 : nm p = -4) : il_W (upd nm p (nI s)) (upd va p (il_b (kn s) x)) (upd ad p x) kn (upd hd s (nI p)) (upd nx p (hd s)) (il_sb (upd bf p (-4)) (hd s) (nI p)) := by
  refine ⟨fun q hq => ?_, fun q t hq ht hn => ?_, il_C_link hp hs h.2.2 h4⟩
  · by_cases e : q = p
    · exact Or.inr ⟨s, hs, by rw [e, pk_us]⟩
    · rw [pk_un e]
      exact h.1 q hq
  · by_cases e : q = p
    · rw [e, pk_us] at hn
      rw [e, pk_us, pk_us, il_inj (by omega) (by omega) hn]
    · rw [pk_un e] at hn
      rw [pk_un e, pk_un e]
      exact h.2.1 q t hq ht hn
theorem il_E_up {p n : Nat} (x : Int32) (hp : p ≤ n) (h : il_E a3 n) : il_E (upd (il_up a3 p n) p x) (n + 1) := by
  intro q h1 h2
  rw [pk_un (by omega)]
  simp only [il_up]
  rw [if_neg (by omega)]
  exact h q (by omega) h2
theorem il_E_dn {p n : Nat} (hp : p < n) (h : il_E a3 n) : il_E (upd (il_dn a3 p n) (n - 1) (-4)) (n - 1) := by
  intro q h1 h2
  by_cases e : q = n - 1
  · rw [e, pk_us]
  · rw [pk_un e]
    simp only [il_dn]
    rw [if_neg (by omega)]
    exact h q (by omega) h2
/-! definitions move -/
def il_d1 (a5 : Nat → Int32) (m w s : Nat) : Nat → Int32 := fun i => if m * 10 + s ≤ i ∧ i < m * 10 + 10 ∧ ¬ a5 i < nI w then a5 i + 1 else a5 i
def il_d2 (a5 : Nat → Int32) (m w s : Nat) : Nat → Int32 := fun i => if m * 10 + s ≤ i ∧ i < m * 10 + 10 ∧ ¬ a5 i ≤ nI w then a5 i - 1 else a5 i
def il_d3 (a5 : Nat → Int32) (m s : Nat) : Nat → Int32 := fun i => if m * 10 + s ≤ i ∧ i < m * 10 + 10 then -4 else a5 i
theorem il_d1_end {w s : Nat} (h : 10 ≤ s) : il_d1 a5 m w s = a5 := by
  funext i
  simp only [il_d1]
  rw [if_neg (fun z => absurd z.1 (by omega))]
theorem il_d2_end {w s : Nat} (h : 10 ≤ s) : il_d2 a5 m w s = a5 := by
  funext i
  simp only [il_d2]
  rw [if_neg (fun z => absurd z.1 (by omega))]
theorem il_d3_end {s : Nat} (h : 10 ≤ s) : il_d3 a5 m s = a5 := by
  funext i
  simp only [il_d3]
  rw [if_neg (fun z => absurd z.1 (by omega))]
theorem il_d1_no {w s : Nat} (c : a5 (m * 10 + s) < nI w) : il_d1 a5 m w (s + 1) = il_d1 a5 m w s := by
  funext i
  simp only [il_d1]
  by_cases e : i = m * 10 + s
  · rw [e, if_neg (fun z => absurd z.1 (by omega)), if_neg (fun z => z.2.2 c)]
  · by_cases d : m * 10 + s ≤ i ∧ i < m * 10 + 10 ∧ ¬ a5 i < nI w
    · rw [if_pos d, if_pos ⟨by omega, d.2⟩]
    · rw [if_neg d, if_neg (fun z => d ⟨by omega, z.2⟩)]
theorem il_d1_yes {w s : Nat} (hs : s < 10) (c : ¬ a5 (m * 10 + s) < nI w) : il_d1 (upd a5 (m * 10 + s) (a5 (m * 10 + s) + 1)) m w (s + 1) = il_d1 a5 m w s := by
  funext i
  simp only [il_d1]
  by_cases e : i = m * 10 + s
  · rw [e, if_neg (fun z => absurd z.1 (by omega)), if_pos ⟨by omega, by omega, c⟩, pk_us]
  · rw [pk_un e]
    by_cases d : m * 10 + s ≤ i ∧ i < m * 10 + 10 ∧ ¬ a5 i < nI w
    · rw [if_pos d, if_pos ⟨by omega, d.2⟩]
    · rw [if_neg d, if_neg (fun z => d ⟨by omega, z.2⟩)]
theorem il_d2_no {w s : Nat} (c : a5 (m * 10 + s) ≤ nI w) : il_d2 a5 m w (s + 1) = il_d2 a5 m w s := by
  funext i
  simp only [il_d2]
  by_cases e : i = m * 10 + s
  · rw [e, if_neg (fun z => absurd z.1 (by omega)), if_neg (fun z => z.2.2 c)]
  · by_cases d : m * 10 + s ≤ i ∧ i < m * 10 + 10 ∧ ¬ a5 i ≤ nI w
    · rw [if_pos d, if_pos ⟨by omega, d.2⟩]
    · rw [if_neg d, if_neg (fun z => d ⟨by omega, z.2⟩)]
theorem il_d2_yes {w s : Nat} (hs : s < 10) (c : ¬ a5 (m * 10 + s) ≤ nI w) : il_d2 (upd a5 (m * 10 + s) (a5 (m * 10 + s) - 1)) m w (s + 1) = il_d2 a5 m w s := by
  funext i
  simp only [il_d2]
  by_cases e : i = m * 10 + s
  · rw [e, if_neg (fun z => absurd z.1 (by omega)), if_pos ⟨by omega, by omega, c⟩, pk_us]
  · rw [pk_un e]
    by_cases d : m * 10 + s ≤ i ∧ i < m * 10 + 10 ∧ ¬ a5 i ≤ nI w
    · rw [if_pos d, if_pos ⟨by omega, d.2⟩]
    · rw [if_neg d, if_neg (fun z => d ⟨by omega, z.2⟩)]
theorem il_d3_yes {s : Nat} (hs : s < 10) : il_d3 (upd a5 (m * 10 + s) (-4)) m (s + 1) = il_d3 a5 m s := by
  funext i
  simp only [il_d3]
  by_cases e : i = m * 10 + s
  · rw [e, if_neg (by omega), if_pos (by omega), pk_us]
  · rw [pk_un e]
    by_cases d : m * 10 + s ≤ i ∧ i < m * 10 + 10
    · rw [if_pos d, if_pos (by omega)]
    · rw [if_neg d, if_neg (by omega)]
theorem il_in69 {post : Int32 → St1 → Prop} {w : Nat} (hm : m < 6) : ∀ (j s : Nat) (a5 : Nat → Int32), s + j = 10 → wX_insert_69 post (nI m) (nI w) (0 + 1) (nI 10) a1 a2 a3 a4 (il_d1 a5 m w s) a6 a7 a8 a9 a10 →
    ∃ n, wX_insert_69 post (nI m) (nI w) n (nI s) a1 a2 a3 a4 a5 a6 a7 a8 a9 a10 := by
  intro j
  induction j with
  | zero =>
    intro s a5 hj H
    have e : s = 10 := by omega
    subst e
    rw [il_d1_end (by omega)] at H
    exact ⟨_, H⟩
  | succ j ih =>
    intro s a5 hj H
    by_cases c : a5 (m * 10 + s) < nI w
    · rw [← il_d1_no c] at H
      obtain ⟨n, hn⟩ := ih (s + 1) _ (by omega) H
      refine ⟨n + 1, pk_le 10 s (fun z => absurd z (by omega)) (fun _ => ⟨pk_in (m * 10 + s) 60 (by omega) (il_ix m s), ?_⟩)⟩
      rw [il_ix, nI_clamp (show m * 10 + s < 2 ^ 31 by omega)]
      exact br_t c (nm_r (nI_1 s) hn)
    · rw [← il_d1_yes (by omega) c] at H
      obtain ⟨n, hn⟩ := ih (s + 1) _ (by omega) H
      refine ⟨n + 1, pk_le 10 s (fun z => absurd z (by omega)) (fun _ => ⟨pk_in (m * 10 + s) 60 (by omega) (il_ix m s), ?_⟩)⟩
      rw [il_ix, nI_clamp (show m * 10 + s < 2 ^ 31 by omega)]
      exact br_f c ⟨pk_in (m * 10 + s) 60 (by omega), pk_in (m * 10 + s) 60 (by omega), nm_e (nm_r (nI_1 s) hn)⟩
theorem il_de41 {post : Int32 → St1 → Prop} {w : Nat} (hm : m < 6) : ∀ (j s : Nat) (a5 : Nat → Int32), s + j = 10 → wX_delete_41 post (nI m) (nI w) (0 + 1) (nI 10) a1 a2 a3 a4 (il_d2 a5 m w s) a6 a7 a8 a9 a10 →
    ∃ n, wX_delete_41 post (nI m) (nI w) n (nI s) a1 a2 a3 a4 a5 a6 a7 a8 a9 a10 := by
  intro j
  induction j with
  | zero =>
    intro s a5 hj H
    have e : s = 10 := by omega
    subst e
    rw [il_d2_end (by omega)] at H
    exact ⟨_, H⟩
  | succ j ih =>
    intro s a5 hj H
    by_cases c : a5 (m * 10 + s) ≤ nI w
    · rw [← il_d2_no c] at H
      obtain ⟨n, hn⟩ := ih (s + 1) _ (by omega) H
      refine ⟨n + 1, pk_le 10 s (fun z => absurd z (by omega)) (fun _ => ⟨pk_in (m * 10 + s) 60 (by omega) (il_ix m s), ?_⟩)⟩
      rw [il_ix, nI_clamp (show m * 10 + s < 2 ^ 31 by omega)]
      exact br_t c (nm_r (nI_1 s) hn)
    · rw [← il_d2_yes (by omega) c] at H
      obtain ⟨n, hn⟩ := ih (s + 1) _ (by omega) H
      refine ⟨n + 1, pk_le 10 s (fun z => absurd z (by omega)) (fun _ => ⟨pk_in (m * 10 + s) 60 (by omega) (il_ix m s), ?_⟩)⟩
      rw [il_ix, nI_clamp (show m * 10 + s < 2 ^ 31 by omega)]
      exact br_f c ⟨pk_in (m * 10 + s) 60 (by omega), pk_in (m * 10 + s) 60 (by omega), nm_e (nm_r (nI_1 s) hn)⟩
theorem il_un42 {post : Int32 → St1 → Prop} {x2 : Int32} (hm : m < 6) : ∀ (j s : Nat) (a5 : Nat → Int32), s + j = 10 → wX_unload_42 post (nI m) x2 (0 + 1) (nI 10) a1 a2 a3 a4 (il_d3 a5 m s) a6 a7 a8 a9 a10 →
    ∃ n, wX_unload_42 post (nI m) x2 n (nI s) a1 a2 a3 a4 a5 a6 a7 a8 a9 a10 := by
  intro j
  induction j with
  | zero =>
    intro s a5 hj H
    have e : s = 10 := by omega
    subst e
    rw [il_d3_end (by omega)] at H
    exact ⟨_, H⟩
  | succ j ih =>
    intro s a5 hj H
    rw [← il_d3_yes (by omega)] at H
    obtain ⟨n, hn⟩ := ih (s + 1) _ (by omega) H
    refine ⟨n + 1, pk_le 10 s (fun z => absurd z (by omega)) (fun _ => ⟨pk_in (m * 10 + s) 60 (by omega) (il_ix m s), ?_⟩)⟩
    rw [il_ix, nI_clamp (show m * 10 + s < 2 ^ 31 by omega)]
    exact nm_e (nm_r (nI_1 s) hn)
/-! the definitions after a move -/
theorem il_F_same {k s m' : Nat} (hk : k < 6) (hs : s < 10) (e : k ≠ m') : ¬ (m' * 10 ≤ k * 10 + s ∧ k * 10 + s < m' * 10 + 10) := by omega
theorem il_4lt {w : Nat} (h : w < 2 ^ 31) : (-4 : Int32) < nI w := by
  rw [Int32.lt_iff_toInt_lt, nI_toInt h]
  have e : (-4 : Int32).toInt = -4 := by decide
  omega
theorem il_F_ins {w : Nat} (hF : il_F a5 st) (hS : il_S a1 st) (hm : m < 6) (hw : st m + w ≤ st (m + 1)) (hr : st (m + 1) < st m + 8) : il_F (il_d1 a5 m w 0) (il_t1 st m) := by
  intro k s hk hs
  by_cases e : k = m
  · subst e
    rw [il_t1_lo (Nat.le_refl k), il_t1_hi (show k < k + 1 by omega)]
    simp only [il_d1]
    rcases hF k s hk hs with z | ⟨d, d1, d2⟩
    · rw [if_neg (fun y => y.2.2 (by rw [z]; exact il_4lt (by omega)))]
      exact Or.inl z
    · by_cases c : d < w
      · rw [if_neg (fun y => y.2.2 (by rw [d2]; exact nI_lt c (by omega)))]
        exact Or.inr ⟨d, by omega, d2⟩
      · rw [if_pos ⟨by omega, by omega, by rw [d2]; exact nI_nlt (by omega) (by omega)⟩, d2, nI_1]
        exact Or.inr ⟨d + 1, by omega, rfl⟩
  · have e1 : il_d1 a5 m w 0 (k * 10 + s) = a5 (k * 10 + s) := by
      simp only [il_d1]
      rw [if_neg (fun y => il_F_same hk hs e ⟨by omega, y.2.1⟩)]
    rw [e1]
    rcases hF k s hk hs with z | ⟨d, d1, d2⟩
    · exact Or.inl z
    · refine Or.inr ⟨d, ?_, d2⟩
      by_cases c : m < k
      · rw [il_t1_hi c, il_t1_hi (by omega)]
        omega
      · rw [il_t1_lo (by omega), il_t1_lo (by omega)]
        exact d1
theorem il_t2_words {k : Nat} (hS : il_S a1 st) (hm : m < 6) (hk : k < 6) (hr : st m < st (m + 1)) (e : k ≠ m) {d : Nat} (hd : st k + d ≤ st (k + 1)) : il_t2 st m k + d ≤ il_t2 st m (k + 1) := by
  by_cases c : m < k
  · have k2 := il_S_mono hS (i := m + 1) (j := k) (by omega) (by omega)
    rw [il_t2_hi c, il_t2_hi (by omega)]
    omega
  · rw [il_t2_lo (by omega), il_t2_lo (by omega)]
    exact hd
theorem il_F_del {w : Nat} (hF : il_F a5 st) (hS : il_S a1 st) (hm : m < 6) (hw : st m + w < st (m + 1)) : il_F (il_d2 a5 m w 0) (il_t2 st m) := by
  intro k s hk hs
  by_cases e : k = m
  · subst e
    have k8 := (hS.2.2 k hk).2
    rw [il_t2_lo (Nat.le_refl k), il_t2_hi (show k < k + 1 by omega)]
    simp only [il_d2]
    rcases hF k s hk hs with z | ⟨d, d1, d2⟩
    · rw [if_neg (fun y => y.2.2 (by rw [z]; exact Int32.le_of_lt (il_4lt (by omega))))]
      exact Or.inl z
    · by_cases c : d ≤ w
      · rw [if_neg (fun y => y.2.2 (by rw [d2]; exact nI_le c (by omega)))]
        exact Or.inr ⟨d, by omega, d2⟩
      · rw [if_pos ⟨by omega, by omega, by rw [d2]; exact nI_ge (by omega) (by omega)⟩, d2]
        obtain ⟨x, hx⟩ : ∃ x, d = x + 1 := ⟨d - 1, by omega⟩
        rw [hx, nI_pred]
        exact Or.inr ⟨x, by omega, rfl⟩
  · have e1 : il_d2 a5 m w 0 (k * 10 + s) = a5 (k * 10 + s) := by
      simp only [il_d2]
      rw [if_neg (fun y => il_F_same hk hs e ⟨by omega, y.2.1⟩)]
    rw [e1]
    rcases hF k s hk hs with z | ⟨d, d1, d2⟩
    · exact Or.inl z
    · exact Or.inr ⟨d, il_t2_words hS hm hk (by omega) e d1, d2⟩
end
end
section
section
variable {a1 a2 a3 a4 a5 a6 a7 a8 a9 a10 : Nat → Int32} {st : Nat → Nat} {m : Nat}
theorem il_ne8 {x : Nat} (h : x < 8) : ¬ nI x = (8 : Int32) := fun e => by
  have k := il_inj (a := x) (b := 8) (by omega) (by omega) e
  omega
theorem il_append (hI : il_I st a1 a2 a3 a4 a5 a6 a7 a8 a9 a10) (hm : m < 6) (v x more : Int32) (hx : x = -4 ∨ ∃ s, s < 10 ∧ x = nI s) :
    il_Ok (fun post => wpX_append post (a1, a2, a3, a4, a5, a6, a7, a8, a9, a10) (nI m) v x more) := by
  have hI' := hI
  obtain ⟨hS, hW, hE, hF, hK⟩ := hI
  have k8 := hS.2.2 m hm
  by_cases c : st (m + 1) < st m + 8
  · have n48 : st 6 < 48 := il_room hS hm c
    have mle : st (m + 1) ≤ st 6 := il_S_mono hS (by omega) (by omega)
    obtain ⟨c8, c9, c10, o1, o2⟩ := il_open a1 a5 a7 (p := st (m + 1)) (n := st 6) hm mle n48 (hS.1 6 (by omega)) hW (hE _ (Nat.le_refl _) n48)
    have S' := il_S_up hS c
    have e6 : il_t1 st m 6 = st 6 + 1 := il_t1_hi (by omega)
    have ew : il_t1 st m (m + 1) - il_t1 st m m = st (m + 1) - st m + 1 := by
      rw [il_t1_hi (by omega), il_t1_lo (by omega)]
      omega
    have F' : il_F a5 (il_t1 st m) := by
      intro k s hk hs
      rcases hF k s hk hs with z | ⟨d, d1, d2⟩
      · exact Or.inl z
      · refine Or.inr ⟨d, ?_, d2⟩
        by_cases c : m < k
        · rw [il_t1_hi c, il_t1_hi (by omega)]
          omega
        · rw [il_t1_lo (by omega)]
          by_cases c2 : m < k + 1
          · rw [il_t1_hi c2]
            omega
          · rw [il_t1_lo (by omega)]
            exact d1
    rcases hx with z | ⟨s, hs, z⟩
    · subst z
      have W2 := il_W_put0 v more o1 pk_us
      have E2 : il_E (upd (il_up a3 (st (m + 1)) (st 6)) (st (m + 1)) (-4)) (il_t1 st m 6) := by
        rw [e6]
        exact il_E_up _ mle hE
      obtain ⟨b2, b6, b7, f1, f2, f3, f4⟩ := il_fresh a7 S' W2 E2 F'
      refine ⟨nI (st (m + 1) - st m + 1), _, _, _, _, _, _, _, _, _, _, _, f1, fun post H => ?_⟩
      unfold wpX_append
      refine il_w_words hS hm (br_f (il_ne8 (by omega)) ⟨pk_in (m + 1) 7 (by omega) (nI_1 m), nm_r (e' := nI (st (m + 1))) (by rw [nI_1, nI_clamp (by omega), hS.1 (m + 1) (by omega)]) (o2 _ (il_w_put0 (by omega) ?_))⟩)
      rw [il_uu]
      refine f4 _ (il_w_words S' hm ?_)
      rw [ew]
      exact H
    · subst z
      have W2 := il_W_putS more (p := st (m + 1)) (by omega) hs o1 pk_us
      rw [il_uu] at W2
      have E2 : il_E (upd (il_up a3 (st (m + 1)) (st 6)) (st (m + 1)) (nI s)) (il_t1 st m 6) := by
        rw [e6]
        exact il_E_up _ mle hE
      obtain ⟨b2, b6, b7, f1, f2, f3, f4⟩ := il_fresh a7 S' W2 E2 F'
      refine ⟨nI (st (m + 1) - st m + 1), _, _, _, _, _, _, _, _, _, _, _, f1, fun post H => ?_⟩
      unfold wpX_append
      refine il_w_words hS hm (br_f (il_ne8 (by omega)) ⟨pk_in (m + 1) 7 (by omega) (nI_1 m), nm_r (e' := nI (st (m + 1))) (by rw [nI_1, nI_clamp (by omega), hS.1 (m + 1) (by omega)]) (o2 _ (il_w_putS (by omega) hs (il_hr hs o1.2.2) ?_))⟩)
      rw [il_uu]
      refine f4 _ (il_w_words S' hm ?_)
      rw [ew]
      exact H
  · refine ⟨-2, st, _, _, _, _, _, _, _, _, _, _, hI', fun post H => ?_⟩
    unfold wpX_append
    exact il_w_words hS hm (br_t (by rw [show st (m + 1) - st m = 8 by omega]; rfl) H)
theorem il_constant (hI : il_I st a1 a2 a3 a4 a5 a6 a7 a8 a9 a10) (hm : m < 6) (v : Int32) :
    il_Ok (fun post => wpX_constant post (a1, a2, a3, a4, a5, a6, a7, a8, a9, a10) (nI m) v) := by
  obtain ⟨r, st', b1, b2, b3, b4, b5, b6, b7, b8, b9, b10, k, h⟩ := il_append hI hm v (-4) 0 (Or.inl rfl)
  refine ⟨r, st', b1, b2, b3, b4, b5, b6, b7, b8, b9, b10, k, fun post H => ?_⟩
  unfold wpX_constant
  exact il_w_bad hm (br_t rfl (h _ H))
theorem il_reference (hI : il_I st a1 a2 a3 a4 a5 a6 a7 a8 a9 a10) (hm : m < 6) {s : Nat} (hs : s < 10) (v : Int32) :
    il_Ok (fun post => wpX_reference post (a1, a2, a3, a4, a5, a6, a7, a8, a9, a10) (nI m) (nI s) v) := by
  by_cases c1 : v < (-100)
  · refine ⟨-1, st, _, _, _, _, _, _, _, _, _, _, hI, fun post H => ?_⟩
    unfold wpX_reference
    exact il_w_bad hm (br_t rfl (il_w_badName hs (br_t rfl (br_t c1 H))))
  · by_cases c2 : v ≤ 100
    · obtain ⟨r, st', b1, b2, b3, b4, b5, b6, b7, b8, b9, b10, k, h⟩ := il_append hI hm 0 (nI s) v (Or.inr ⟨s, hs, rfl⟩)
      refine ⟨r, st', b1, b2, b3, b4, b5, b6, b7, b8, b9, b10, k, fun post H => ?_⟩
      unfold wpX_reference
      exact il_w_bad hm (br_t rfl (il_w_badName hs (br_t rfl (br_f c1 (br_t c2 (h _ H))))))
    · refine ⟨-1, st, _, _, _, _, _, _, _, _, _, _, hI, fun post H => ?_⟩
      unfold wpX_reference
      exact il_w_bad hm (br_t rfl (il_w_badName hs (br_t rfl (br_f c1 (br_f c2 H)))))
theorem il_patch (hI : il_I st a1 a2 a3 a4 a5 a6 a7 a8 a9 a10) (hm : m < 6) {w : Nat} (hw : w < 8) (v : Int32) :
    il_Ok (fun post => wpX_patch post (a1, a2, a3, a4, a5, a6, a7, a8, a9, a10) (nI m) (nI w) v) := by
  have hI' := hI
  obtain ⟨hS, hW, hE, hF, hK⟩ := hI
  have k8 := hS.2.2 m hm
  have mle : st (m + 1) ≤ st 6 := il_S_mono hS (by omega) (by omega)
  have n48 := il_size hS
  by_cases c : st m + w < st (m + 1)
  · have N' : ∀ b8 b9 b10, il_C (upd a3 (st m + w) (-4)) b8 b9 b10 → il_I st a1 (upd a2 (st m + w) v) (upd a3 (st m + w) (-4)) (upd a4 (st m + w) 0) a5 a6 a7 b8 b9 b10 := by
      intro b8 b9 b10 hC
      refine ⟨hS, ⟨fun q hq => ?_, fun q t hq ht h => ?_, hC⟩, fun q h1 h2 => ?_, hF, hK⟩
      · by_cases e : q = st m + w
        · exact Or.inl (by rw [e, pk_us])
        · rw [pk_un e]
          exact hW.1 q hq
      · by_cases e : q = st m + w
        · rw [e, pk_us] at h
          exact absurd h (il_4n (by omega))
        · rw [pk_un e] at h
          rw [pk_un e, pk_un e]
          exact hW.2.1 q t hq ht h
      · by_cases e : q = st m + w
        · rw [e, pk_us]
        · rw [pk_un e]
          exact hE q h1 h2
    have ep : a1 (nI m).toNatClampNeg + nI w = nI (st m + w) := by
      rw [nI_clamp (by omega), hS.1 m (by omega), nI_add]
    rcases hW.1 (st m + w) (by omega) with z | ⟨s, hs, z⟩
    · refine ⟨0, st, _, _, _, _, _, _, _, _, _, _, N' a8 a9 a10 (il_C_congr hW.2.2 (fun q hq => ?_)), fun post H => ?_⟩
      · rw [il_uself a3 _ _ z]
      · unfold wpX_patch
        refine il_w_bad hm (br_t rfl (br_f (nI_pos (by omega)) (il_w_words hS hm (br_t (nI_lt (by omega) (by omega)) ⟨pk_in m 7 (by omega), nm_r ep ⟨pk_in (st m + w) 48 (by omega), br_t ?_ (br_f (by decide) (il_w_put0 (by omega) H))⟩⟩))))
        rw [nI_clamp (by omega), z]
        exact il_4neg
    · obtain ⟨b8, b9, b10, u1, u2⟩ := il_unl (a1 := a1) (a2 := a2) (a4 := a4) (a5 := a5) (a6 := a6) (a7 := a7) (p := st m + w) (by omega) hs hW.2.2 z
      refine ⟨1, st, _, _, _, _, _, _, _, _, _, _, N' b8 b9 b10 u1, fun post H => ?_⟩
      unfold wpX_patch
      refine il_w_bad hm (br_t rfl (br_f (nI_pos (by omega)) (il_w_words hS hm (br_t (nI_lt (by omega) (by omega)) ⟨pk_in m 7 (by omega), nm_r ep ⟨pk_in (st m + w) 48 (by omega), br_f ?_ (br_t rfl ⟨pk_in (st m + w) 48 (by omega), ?_⟩)⟩⟩))))
      · rw [nI_clamp (by omega), z]
        exact nI_pos (by omega)
      · rw [nI_clamp (by omega), z]
        exact u2 _ (il_w_put0 (by omega) H)
  · refine ⟨-4, st, _, _, _, _, _, _, _, _, _, _, hI', fun post H => ?_⟩
    unfold wpX_patch
    exact il_w_bad hm (br_t rfl (br_f (nI_pos (by omega)) (il_w_words hS hm (br_f (nI_nlt (by omega) (by omega)) H))))
theorem il_insert_no (hI : il_I st a1 a2 a3 a4 a5 a6 a7 a8 a9 a10) (hm : m < 6) {w : Nat} (hw : w < 8) (v : Int32) (c : ¬ (st m + w ≤ st (m + 1) ∧ st (m + 1) < st m + 8)) :
    ∃ r : Int32, r < 0 ∧ ∀ post : Int32 → St1 → Prop, post r (a1, a2, a3, a4, a5, a6, a7, a8, a9, a10) → wpX_insert post (a1, a2, a3, a4, a5, a6, a7, a8, a9, a10) (nI m) (nI w) v := by
  obtain ⟨hS, hW, hE, hF, hK⟩ := hI
  have k8 := hS.2.2 m hm
  by_cases c1 : st m + w ≤ st (m + 1)
  · refine ⟨-2, by decide, fun post H => ?_⟩
    unfold wpX_insert
    exact il_w_bad hm (br_t rfl (br_f (nI_pos (by omega)) (il_w_words hS hm (br_t (nI_le (by omega) (by omega)) (il_w_words hS hm (br_t (by rw [show st (m + 1) - st m = 8 by omega]; rfl) H))))))
  · refine ⟨-4, by decide, fun post H => ?_⟩
    unfold wpX_insert
    exact il_w_bad hm (br_t rfl (br_f (nI_pos (by omega)) (il_w_words hS hm (br_f (nI_ge (by omega) (by omega)) H))))
theorem il_insert_ok (hI : il_I st a1 a2 a3 a4 a5 a6 a7 a8 a9 a10) (hm : m < 6) {w : Nat} (v : Int32) (hw : st m + w ≤ st (m + 1)) (hr : st (m + 1) < st m + 8) :
    ∃ b2 b6 b7 b8 b9 b10, il_I (il_t1 st m) (il_s1 a1 (m + 1)) b2 (upd (il_up a3 (st m + w) (st 6)) (st m + w) (-4)) (upd (il_up a4 (st m + w) (st 6)) (st m + w) 0) (il_d1 a5 m w 0) b6 b7 b8 b9 b10 ∧
      (∀ q, upd (il_up a3 (st m + w) (st 6)) (st m + w) (-4) q = -4 → b2 q = upd (il_up a2 (st m + w) (st 6)) (st m + w) v q) ∧
      (∀ t, 10 ≤ t → b6 t = a6 t ∧ b7 t = a7 t) ∧
      ∀ post : Int32 → St1 → Prop, post (nI (st (m + 1) - st m + 1)) (il_s1 a1 (m + 1), b2, upd (il_up a3 (st m + w) (st 6)) (st m + w) (-4), upd (il_up a4 (st m + w) (st 6)) (st m + w) 0, il_d1 a5 m w 0, b6, b7, b8, b9, b10) →
        wpX_insert post (a1, a2, a3, a4, a5, a6, a7, a8, a9, a10) (nI m) (nI w) v := by
  obtain ⟨hS, hW, hE, hF, hK⟩ := hI
  have k8 := hS.2.2 m hm
  have n48 : st 6 < 48 := il_room hS hm hr
  have mle : st (m + 1) ≤ st 6 := il_S_mono hS (by omega) (by omega)
  obtain ⟨c8, c9, c10, o1, o2⟩ := il_open a1 a5 a7 (p := st m + w) (n := st 6) hm (by omega) n48 (hS.1 6 (by omega)) hW (hE _ (Nat.le_refl _) n48)
  have S' := il_S_up hS hr
  have e6 : il_t1 st m 6 = st 6 + 1 := il_t1_hi (by omega)
  have ew : il_t1 st m (m + 1) - il_t1 st m m = st (m + 1) - st m + 1 := by
    rw [il_t1_hi (by omega), il_t1_lo (by omega)]
    omega
  have W2 := il_W_put0 v 0 o1 pk_us
  have E2 : il_E (upd (il_up a3 (st m + w) (st 6)) (st m + w) (-4)) (il_t1 st m 6) := by
    rw [e6]
    exact il_E_up _ (by omega) hE
  obtain ⟨b2, b6, b7, f1, f2, f3, f4⟩ := il_fresh a7 S' W2 E2 (il_F_ins hF hS hm hw hr)
  refine ⟨b2, b6, b7, c8, c9, c10, f1, f2, f3, fun post H => ?_⟩
  have ep : a1 (nI m).toNatClampNeg + nI w = nI (st m + w) := by
    rw [nI_clamp (by omega), hS.1 m (by omega), nI_add]
  unfold wpX_insert
  refine il_w_bad hm (br_t rfl (br_f (nI_pos (by omega)) (il_w_words hS hm (br_t (nI_le (by omega) (by omega)) (il_w_words hS hm (br_f (il_ne8 (by omega)) ⟨pk_in m 7 (by omega), nm_r ep (o2 _ (il_w_put0 (by omega) ?_))⟩))))))
  rw [il_uu]
  refine il_in69 hm 10 0 a5 rfl (br_t (by decide) (f4 _ (il_w_words S' hm ?_)))
  rw [ew]
  exact H
theorem il_insert (hI : il_I st a1 a2 a3 a4 a5 a6 a7 a8 a9 a10) (hm : m < 6) {w : Nat} (hw : w < 8) (v : Int32) :
    il_Ok (fun post => wpX_insert post (a1, a2, a3, a4, a5, a6, a7, a8, a9, a10) (nI m) (nI w) v) := by
  by_cases c : st m + w ≤ st (m + 1) ∧ st (m + 1) < st m + 8
  · obtain ⟨b2, b6, b7, b8, b9, b10, f1, _, _, f4⟩ := il_insert_ok hI hm v c.1 c.2
    exact ⟨_, _, _, _, _, _, _, _, _, _, _, _, f1, f4⟩
  · obtain ⟨r, _, h⟩ := il_insert_no hI hm hw v c
    exact ⟨r, st, _, _, _, _, _, _, _, _, _, _, hI, h⟩
theorem il_delete_ok (hI : il_I st a1 a2 a3 a4 a5 a6 a7 a8 a9 a10) (hm : m < 6) {w : Nat} (hw : st m + w < st (m + 1)) :
    ∃ b2 b6 b7 b8 b9 b10, il_I (il_t2 st m) (il_s2 a1 (m + 1)) b2 (upd (il_dn a3 (st m + w) (st 6)) (st 6 - 1) (-4)) (il_dn a4 (st m + w) (st 6)) (il_d2 a5 m w 0) b6 b7 b8 b9 b10 ∧
      (∀ q, upd (il_dn a3 (st m + w) (st 6)) (st 6 - 1) (-4) q = -4 → b2 q = il_dn a2 (st m + w) (st 6) q) ∧
      (∀ t, 10 ≤ t → b6 t = a6 t ∧ b7 t = a7 t) ∧
      ∀ post : Int32 → St1 → Prop, post (nI (st (m + 1) - st m - 1)) (il_s2 a1 (m + 1), b2, upd (il_dn a3 (st m + w) (st 6)) (st 6 - 1) (-4), il_dn a4 (st m + w) (st 6), il_d2 a5 m w 0, b6, b7, b8, b9, b10) →
        wpX_delete post (a1, a2, a3, a4, a5, a6, a7, a8, a9, a10) (nI m) (nI w) := by
  obtain ⟨hS, hW, hE, hF, hK⟩ := hI
  have k8 := hS.2.2 m hm
  have n48 := il_size hS
  have mle : st (m + 1) ≤ st 6 := il_S_mono hS (by omega) (by omega)
  obtain ⟨c8, c9, c10, o1, o2⟩ := il_close a1 a5 a7 (p := st m + w) (n := st 6) hm (by omega) n48 (hS.1 6 (by omega)) hW
  have S' := il_S_dn hS hm (by omega)
  have e6 : il_t2 st m 6 = st 6 - 1 := il_t2_hi (by omega)
  have ew : il_t2 st m (m + 1) - il_t2 st m m = st (m + 1) - st m - 1 := by
    rw [il_t2_hi (by omega), il_t2_lo (by omega)]
    omega
  have E2 : il_E (upd (il_dn a3 (st m + w) (st 6)) (st 6 - 1) (-4)) (il_t2 st m 6) := by
    rw [e6]
    exact il_E_dn (by omega) hE
  obtain ⟨b2, b6, b7, f1, f2, f3, f4⟩ := il_fresh a7 S' o1 E2 (il_F_del hF hS hm hw)
  refine ⟨b2, b6, b7, c8, c9, c10, f1, f2, f3, fun post H => ?_⟩
  have ep : a1 (nI m).toNatClampNeg + nI w = nI (st m + w) := by
    rw [nI_clamp (by omega), hS.1 m (by omega), nI_add]
  unfold wpX_delete
  refine il_w_bad hm (br_t rfl (br_f (nI_pos (by omega)) (il_w_words hS hm (br_t (nI_lt (by omega) (by omega)) ⟨pk_in m 7 (by omega), ?_⟩))))
  rw [ep]
  refine o2 _ (il_de41 hm 10 0 a5 rfl (br_t (by decide) (f4 _ (il_w_words S' hm ?_))))
  rw [ew]
  exact H
theorem il_delete (hI : il_I st a1 a2 a3 a4 a5 a6 a7 a8 a9 a10) (hm : m < 6) {w : Nat} (hw : w < 8) :
    il_Ok (fun post => wpX_delete post (a1, a2, a3, a4, a5, a6, a7, a8, a9, a10) (nI m) (nI w)) := by
  by_cases c : st m + w < st (m + 1)
  · obtain ⟨b2, b6, b7, b8, b9, b10, f1, _, _, f4⟩ := il_delete_ok hI hm c
    exact ⟨_, _, _, _, _, _, _, _, _, _, _, _, f1, f4⟩
  · have k8 := hI.1.2.2 m hm
    refine ⟨-4, st, _, _, _, _, _, _, _, _, _, _, hI, fun post H => ?_⟩
    unfold wpX_delete
    exact il_w_bad hm (br_t rfl (br_f (nI_pos (by omega)) (il_w_words hI.1 hm (br_f (nI_nlt (by omega) (by omega)) H))))
theorem il_define (hI : il_I st a1 a2 a3 a4 a5 a6 a7 a8 a9 a10) (hm : m < 6) {s : Nat} (hs : s < 10) {w : Nat} (hw : w < 8) :
    il_Ok (fun post => wpX_define post (a1, a2, a3, a4, a5, a6, a7, a8, a9, a10) (nI m) (nI s) (nI w)) := by
  have hI' := hI
  obtain ⟨hS, hW, hE, hF, hK⟩ := hI
  have k8 := hS.2.2 m hm
  by_cases c : st m + w ≤ st (m + 1)
  · have F' : il_F (upd a5 (m * 10 + s) (nI w)) st := by
      intro k t hk ht
      by_cases e : k * 10 + t = m * 10 + s
      · have ek : k = m := by omega
        subst ek
        rw [e, pk_us]
        exact Or.inr ⟨w, c, rfl⟩
      · rw [pk_un e]
        exact hF k t hk ht
    obtain ⟨b2, b6, b7, f1, f2, f3, f4⟩ := il_fresh a7 hS hW hE F'
    have g : ∀ (z : Int32) (post : Int32 → St1 → Prop), post z (a1, b2, a3, a4, upd a5 (m * 10 + s) (nI w), b6, b7, a8, a9, a10) → wX_define_53 post (nI m) (nI s) (nI w) z a1 a2 a3 a4 a5 a6 a7 a8 a9 a10 := by
      intro z post H
      unfold wX_define_53
      rw [il_ix, nI_clamp (show m * 10 + s < 2 ^ 31 by omega)]
      exact ⟨pk_in (m * 10 + s) 60 (by omega), nm_e (f4 _ H)⟩
    by_cases d : a5 (m * 10 + s) < 0
    · refine ⟨0, _, _, _, _, _, _, _, _, _, _, _, f1, fun post H => ?_⟩
      unfold wpX_define
      refine il_w_bad hm (br_t rfl (il_w_badName hs (br_t rfl (br_f (nI_pos (by omega)) (il_w_words hS hm (br_t (nI_le (by omega) (by omega)) ⟨pk_in (m * 10 + s) 60 (by omega) (il_ix m s), br_t ?_ (g 0 post H)⟩))))))
      rw [il_ix, nI_clamp (show m * 10 + s < 2 ^ 31 by omega)]
      exact d
    · refine ⟨1, _, _, _, _, _, _, _, _, _, _, _, f1, fun post H => ?_⟩
      unfold wpX_define
      refine il_w_bad hm (br_t rfl (il_w_badName hs (br_t rfl (br_f (nI_pos (by omega)) (il_w_words hS hm (br_t (nI_le (by omega) (by omega)) ⟨pk_in (m * 10 + s) 60 (by omega) (il_ix m s), br_f ?_ (g 1 post H)⟩))))))
      rw [il_ix, nI_clamp (show m * 10 + s < 2 ^ 31 by omega)]
      exact d
  · refine ⟨-4, st, _, _, _, _, _, _, _, _, _, _, hI', fun post H => ?_⟩
    unfold wpX_define
    exact il_w_bad hm (br_t rfl (il_w_badName hs (br_t rfl (br_f (nI_pos (by omega)) (il_w_words hS hm (br_f (nI_ge (by omega) (by omega)) H))))))
theorem il_undefine (hI : il_I st a1 a2 a3 a4 a5 a6 a7 a8 a9 a10) (hm : m < 6) {s : Nat} (hs : s < 10) :
    il_Ok (fun post => wpX_undefine post (a1, a2, a3, a4, a5, a6, a7, a8, a9, a10) (nI m) (nI s)) := by
  have hI' := hI
  obtain ⟨hS, hW, hE, hF, hK⟩ := hI
  have F' : il_F (upd a5 (m * 10 + s) (-4)) st := by
    intro k t hk ht
    by_cases e : k * 10 + t = m * 10 + s
    · rw [e, pk_us]
      exact Or.inl rfl
    · rw [pk_un e]
      exact hF k t hk ht
  have e5 : a5 (nI m * 10 + nI s).toNatClampNeg = a5 (m * 10 + s) := by
    rw [il_ix, nI_clamp (show m * 10 + s < 2 ^ 31 by omega)]
  by_cases c : 0 ≤ a5 (m * 10 + s)
  · obtain ⟨b2, b6, b7, f1, f2, f3, f4⟩ := il_fresh a7 hS hW hE F'
    refine ⟨a5 (m * 10 + s), _, _, _, _, _, _, _, _, _, _, _, f1, fun post H => ?_⟩
    unfold wpX_undefine
    refine il_w_bad hm (br_t rfl (il_w_badName hs (br_t rfl ⟨pk_in (m * 10 + s) 60 (by omega) (il_ix m s), nm_r e5 (br_t c ⟨pk_in (m * 10 + s) 60 (by omega) (il_ix m s), nm_r (e' := upd a5 (m * 10 + s) (-4)) ?_ (f4 _ H)⟩)⟩)))
    rw [il_ix, nI_clamp (show m * 10 + s < 2 ^ 31 by omega)]
  · refine ⟨-4, st, _, _, _, _, _, _, _, _, _, _, hI', fun post H => ?_⟩
    unfold wpX_undefine
    exact il_w_bad hm (br_t rfl (il_w_badName hs (br_t rfl ⟨pk_in (m * 10 + s) 60 (by omega) (il_ix m s), nm_r e5 (br_f c H)⟩)))
/-! unload -/
def il_Fx (a5 : Nat → Int32) (st : Nat → Nat) (m : Nat) : Prop := ∀ k s, k ≠ m → k < 6 → s < 10 → a5 (k * 10 + s) = -4 ∨ ∃ d, st k + d ≤ st (k + 1) ∧ a5 (k * 10 + s) = nI d
theorem il_un18 {N : Nat} (hm : m < 6) (hN : N ≤ 8) : ∀ (j i : Nat) (st : Nat → Nat) (a1 a2 a3 a4 a8 a9 a10 : Nat → Int32), st (m + 1) = st m + j → i + j = N → il_S a1 st → il_W a3 a2 a4 a6 a8 a9 a10 → il_E a3 (st 6) → il_Fx a5 st m →
    ∃ (st' : Nat → Nat) (b1 b2 b3 b4 b8 b9 b10 : Nat → Int32), il_S b1 st' ∧ il_W b3 b2 b4 a6 b8 b9 b10 ∧ il_E b3 (st' 6) ∧ il_Fx a5 st' m ∧
      ∀ post : Int32 → St1 → Prop, (∃ n, wX_unload_42 post (nI m) (nI N) n 0 b1 b2 b3 b4 a5 a6 a7 b8 b9 b10) → ∃ n, wX_unload_18 post (nI m) (nI N) n (nI i) a1 a2 a3 a4 a5 a6 a7 a8 a9 a10 := by
  intro j
  induction j with
  | zero =>
    intro i st a1 a2 a3 a4 a8 a9 a10 hj hi hS hW hE hF
    exact ⟨st, a1, a2, a3, a4, a8, a9, a10, hS, hW, hE, hF, fun post H => ⟨0 + 1, pk_le N i (fun _ => H) (fun z => absurd z (by omega))⟩⟩
  | succ j ih =>
    intro i st a1 a2 a3 a4 a8 a9 a10 hj hi hS hW hE hF
    have n48 := il_size hS
    have mle : st (m + 1) ≤ st 6 := il_S_mono hS (by omega) (by omega)
    obtain ⟨c8, c9, c10, o1, o2⟩ := il_close a1 a5 a7 (p := st m) (n := st 6) hm (by omega) n48 (hS.1 6 (by omega)) hW
    have S' := il_S_dn hS hm (by omega)
    have e6 : il_t2 st m 6 = st 6 - 1 := il_t2_hi (by omega)
    have E2 : il_E (upd (il_dn a3 (st m) (st 6)) (st 6 - 1) (-4)) (il_t2 st m 6) := by
      rw [e6]
      exact il_E_dn (by omega) hE
    have F2 : il_Fx a5 (il_t2 st m) m := by
      intro k s hk h6 hs
      rcases hF k s hk h6 hs with z | ⟨d, d1, d2⟩
      · exact Or.inl z
      · exact Or.inr ⟨d, il_t2_words hS hm h6 (by omega) hk d1, d2⟩
    have ej : il_t2 st m (m + 1) = il_t2 st m m + j := by
      rw [il_t2_hi (by omega), il_t2_lo (by omega)]
      omega
    obtain ⟨st', b1, b2, b3, b4, b8, b9, b10, q1, q2, q3, q4, q5⟩ := ih (i + 1) (il_t2 st m) _ _ _ _ c8 c9 c10 ej (by omega) S' o1 E2 F2
    refine ⟨st', b1, b2, b3, b4, b8, b9, b10, q1, q2, q3, q4, fun post H => ?_⟩
    obtain ⟨n, hn⟩ := q5 post H
    refine ⟨n + 1, pk_le N i (fun z => absurd z (by omega)) (fun _ => ⟨pk_in m 7 (by omega), ?_⟩)⟩
    rw [nI_clamp (show m < 2 ^ 31 by omega), hS.1 m (by omega)]
    exact o2 _ (nm_r (nI_1 i) hn)
theorem il_unload (hI : il_I st a1 a2 a3 a4 a5 a6 a7 a8 a9 a10) (hm : m < 6) :
    il_Ok (fun post => wpX_unload post (a1, a2, a3, a4, a5, a6, a7, a8, a9, a10) (nI m)) := by
  obtain ⟨hS, hW, hE, hF, hK⟩ := hI
  have k8 := hS.2.2 m hm
  obtain ⟨st', b1, b2, b3, b4, b8, b9, b10, q1, q2, q3, q4, q5⟩ := il_un18 (N := st (m + 1) - st m) (a5 := a5) (a7 := a7) hm (by omega) (st (m + 1) - st m) 0 st a1 a2 a3 a4 a8 a9 a10 (by omega) (by omega) hS hW hE (fun k s _ h6 hs => hF k s h6 hs)
  have F' : il_F (il_d3 a5 m 0) st' := by
    intro k s hk hs
    simp only [il_d3]
    by_cases e : k = m
    · subst e
      rw [if_pos (by omega)]
      exact Or.inl rfl
    · rw [if_neg (fun y => il_F_same hk hs e ⟨by omega, y.2⟩)]
      exact q4 k s e hk hs
  obtain ⟨c2, c6, c7, f1, f2, f3, f4⟩ := il_fresh a7 q1 q2 q3 F'
  refine ⟨nI (st (m + 1) - st m), _, _, _, _, _, _, _, _, _, _, _, f1, fun post H => ?_⟩
  unfold wpX_unload
  exact il_w_bad hm (br_t rfl (il_w_words hS hm (q5 post (il_un42 hm 10 0 a5 rfl (br_t (by decide) (f4 _ H))))))
end
end
section
section
variable {a1 a2 a3 a4 a5 a6 a7 a8 a9 a10 : Nat → Int32} {st : Nat → Nat}
theorem il_m6 (y : Int32) : ∃ m, m < 6 ∧ (y &&& 7) - (y &&& 7) / 6 * 6 = nI m := by
  obtain ⟨j, h, e⟩ := pk_andE y (m := 7) 3 (by decide)
  refine ⟨j % 6, Nat.mod_lt _ (by omega), ?_⟩
  rw [e]
  exact pk_rem (d := 6) (by omega) (by omega) (by omega)
theorem il_m10 (y : Int32) : ∃ m, m < 10 ∧ (y &&& 15) - (y &&& 15) / 10 * 10 = nI m := by
  obtain ⟨j, h, e⟩ := pk_andE y (m := 15) 4 (by decide)
  refine ⟨j % 10, Nat.mod_lt _ (by omega), ?_⟩
  rw [e]
  exact pk_rem (d := 10) (by omega) (by omega) (by omega)
theorem il_turn (hI : il_I st a1 a2 a3 a4 a5 a6 a7 a8 a9 a10) (x y : Int32) :
    il_Ok (fun post => wpL_turn post (a1, a2, a3, a4, a5, a6, a7, a8, a9, a10) x y) := by
  obtain ⟨m, hm, em⟩ := il_m6 y
  obtain ⟨s, hs, es⟩ := il_m10 (y >>> ((3 : Int32) &&& 31))
  obtain ⟨w, hw, ew⟩ := pk_andE (y >>> ((7 : Int32) &&& 31)) (m := 7) 3 (by decide)
  by_cases c5 : 5 ≤ x &&& 31
  · by_cases c13 : 13 ≤ x &&& 31
    · by_cases c15 : 15 ≤ x &&& 31
      · by_cases c18 : 18 ≤ x &&& 31
        · by_cases c20 : 20 ≤ x &&& 31
          · by_cases d20 : x &&& 31 = 20
            · obtain ⟨r, st', b1, b2, b3, b4, b5, b6, b7, b8, b9, b10, k, h⟩ := il_unload hI hm
              refine ⟨r, st', b1, b2, b3, b4, b5, b6, b7, b8, b9, b10, k, fun post H => ?_⟩
              unfold wpL_turn
              exact nm_e ⟨by decide, nm_r em ⟨by decide, nm_r es (nm_r ew (nm_e (br_t c5 (br_t c13 (br_t c15 (br_t c18 (br_t c20 (br_t d20 (h _ H)))))))))⟩⟩
            · by_cases c30 : 30 ≤ x &&& 31
              · obtain ⟨r, st', b1, b2, b3, b4, b5, b6, b7, b8, b9, b10, k, h⟩ := il_undefine hI hm hs
                refine ⟨r, st', b1, b2, b3, b4, b5, b6, b7, b8, b9, b10, k, fun post H => ?_⟩
                unfold wpL_turn
                exact nm_e ⟨by decide, nm_r em ⟨by decide, nm_r es (nm_r ew (nm_e (br_t c5 (br_t c13 (br_t c15 (br_t c18 (br_t c20 (br_f d20 (br_t c30 (h _ H))))))))))⟩⟩
              · obtain ⟨r, st', b1, b2, b3, b4, b5, b6, b7, b8, b9, b10, k, h⟩ := il_define hI hm hs (w := w / 2) (by omega)
                refine ⟨r, st', b1, b2, b3, b4, b5, b6, b7, b8, b9, b10, k, fun post H => ?_⟩
                unfold wpL_turn
                refine nm_e ⟨by decide, nm_r em ⟨by decide, nm_r es (nm_r ew (nm_e (br_t c5 (br_t c13 (br_t c15 (br_t c18 (br_t c20 (br_f d20 (br_f c30 ?_))))))))) ⟩⟩
                rw [pk_shrN (by omega) _ 1 (by decide)]
                exact h _ H
          · obtain ⟨r, st', b1, b2, b3, b4, b5, b6, b7, b8, b9, b10, k, h⟩ := il_delete hI hm hw
            refine ⟨r, st', b1, b2, b3, b4, b5, b6, b7, b8, b9, b10, k, fun post H => ?_⟩
            unfold wpL_turn
            exact nm_e ⟨by decide, nm_r em ⟨by decide, nm_r es (nm_r ew (nm_e (br_t c5 (br_t c13 (br_t c15 (br_t c18 (br_f c20 (h _ H))))))))⟩⟩
        · obtain ⟨r, st', b1, b2, b3, b4, b5, b6, b7, b8, b9, b10, k, h⟩ := il_insert hI hm hw (y >>> ((10 : Int32) &&& 31))
          refine ⟨r, st', b1, b2, b3, b4, b5, b6, b7, b8, b9, b10, k, fun post H => ?_⟩
          unfold wpL_turn
          exact nm_e ⟨by decide, nm_r em ⟨by decide, nm_r es (nm_r ew (nm_e (br_t c5 (br_t c13 (br_t c15 (br_f c18 (h _ H)))))))⟩⟩
      · obtain ⟨r, st', b1, b2, b3, b4, b5, b6, b7, b8, b9, b10, k, h⟩ := il_patch hI hm hw ((y >>> ((10 : Int32) &&& 31)) &&& 63)
        refine ⟨r, st', b1, b2, b3, b4, b5, b6, b7, b8, b9, b10, k, fun post H => ?_⟩
        unfold wpL_turn
        exact nm_e ⟨by decide, nm_r em ⟨by decide, nm_r es (nm_r ew (nm_e (br_t c5 (br_t c13 (br_f c15 (h _ H))))))⟩⟩
    · obtain ⟨r, st', b1, b2, b3, b4, b5, b6, b7, b8, b9, b10, k, h⟩ := il_reference hI hm hs (((y >>> ((10 : Int32) &&& 31)) &&& 63) - 30)
      refine ⟨r, st', b1, b2, b3, b4, b5, b6, b7, b8, b9, b10, k, fun post H => ?_⟩
      unfold wpL_turn
      exact nm_e ⟨by decide, nm_r em ⟨by decide, nm_r es (nm_r ew (nm_e (br_t c5 (br_f c13 (h _ H)))))⟩⟩
  · obtain ⟨r, st', b1, b2, b3, b4, b5, b6, b7, b8, b9, b10, k, h⟩ := il_constant hI hm (y >>> ((10 : Int32) &&& 31))
    refine ⟨r, st', b1, b2, b3, b4, b5, b6, b7, b8, b9, b10, k, fun post H => ?_⟩
    unfold wpL_turn
    exact nm_e ⟨by decide, nm_r em ⟨by decide, nm_r es (nm_r ew (nm_e (br_f c5 (h _ H))))⟩⟩
/-! a new one -/
theorem il_fill {f : Nat → Int32} {i : Nat} (h : ∀ q, q < i → f q = -4) : ∀ q, q < i + 1 → upd f i (-4) q = -4 := by
  intro q hq
  by_cases e : q = i
  · rw [e, pk_us]
  · rw [pk_un e]
    exact h q (by omega)
theorem il_in146 (mc ms kc ks : Nat) : ∀ (j i : Nat) (a3 : Nat → Int32), i + j = 48 → (∀ q, q < i → a3 q = -4) →
    ∃ b3 : Nat → Int32, (∀ q, q < 48 → b3 q = -4) ∧ ∀ post : St1 → Prop, post (a1, a2, b3, a4, a5, a6, a7, a8, a9, a10) → ∃ n, wX_init_146 post mc ms kc ks n (nI i) a1 a2 a3 a4 a5 a6 a7 a8 a9 a10 := by
  intro j
  induction j with
  | zero =>
    intro i a3 hj h
    have e : i = 48 := by omega
    subst e
    exact ⟨a3, h, fun post H => ⟨0 + 1, br_t (by decide) H⟩⟩
  | succ j ih =>
    intro i a3 hj h
    obtain ⟨b3, q1, q2⟩ := ih (i + 1) _ (by omega) (il_fill h)
    refine ⟨b3, q1, fun post H => ?_⟩
    obtain ⟨n, hn⟩ := q2 post H
    exact ⟨n + 1, pk_le 48 i (fun z => absurd z (by omega)) (fun _ => ⟨pk_in i 48 (by omega), nm_r (e' := upd a3 i (-4)) (by rw [nI_clamp (by omega)]) (nm_r (nI_1 i) hn)⟩)⟩
theorem il_in108 (mc ms kc ks : Nat) : ∀ (j i : Nat) (a6 a7 a8 : Nat → Int32), i + j = 10 → (∀ q, q < i → a6 q = -4) → (∀ q, q < i → a7 q = -4) → (∀ q, q < i → a8 q = -4) →
    ∃ b6 b7 b8 : Nat → Int32, (∀ q, q < 10 → b6 q = -4) ∧ (∀ q, q < 10 → b7 q = -4) ∧ (∀ q, q < 10 → b8 q = -4) ∧ ∀ post : St1 → Prop, (∃ n, wX_init_146 post mc ms kc ks n 0 a1 a2 a3 a4 a5 b6 b7 b8 a9 a10) → ∃ n, wX_init_108 post mc ms kc ks n (nI i) a1 a2 a3 a4 a5 a6 a7 a8 a9 a10 := by
  intro j
  induction j with
  | zero =>
    intro i a6 a7 a8 hj h1 h2 h3
    have e : i = 10 := by omega
    subst e
    exact ⟨a6, a7, a8, h1, h2, h3, fun post H => ⟨0 + 1, br_t (by decide) H⟩⟩
  | succ j ih =>
    intro i a6 a7 a8 hj h1 h2 h3
    obtain ⟨b6, b7, b8, q1, q2, q3, q4⟩ := ih (i + 1) _ _ _ (by omega) (il_fill h1) (il_fill h2) (il_fill h3)
    refine ⟨b6, b7, b8, q1, q2, q3, fun post H => ?_⟩
    obtain ⟨n, hn⟩ := q4 post H
    exact ⟨n + 1, pk_le 10 i (fun z => absurd z (by omega)) (fun _ => ⟨pk_in i 10 (by omega), nm_r (e' := upd a6 i (-4)) (by rw [nI_clamp (by omega)]) ⟨pk_in i 10 (by omega), nm_r (e' := upd a7 i (-4)) (by rw [nI_clamp (by omega)]) ⟨pk_in i 10 (by omega), nm_r (e' := upd a8 i (-4)) (by rw [nI_clamp (by omega)]) (nm_r (nI_1 i) hn)⟩⟩⟩)⟩
theorem il_in86 (mc ms kc ks : Nat) : ∀ (j i : Nat) (a5 : Nat → Int32), i + j = 60 → (∀ q, q < i → a5 q = -4) →
    ∃ b5 : Nat → Int32, (∀ q, q < 60 → b5 q = -4) ∧ ∀ post : St1 → Prop, (∃ n, wX_init_108 post mc ms kc ks n 0 a1 a2 a3 a4 b5 a6 a7 a8 a9 a10) → ∃ n, wX_init_86 post mc ms kc ks n (nI i) a1 a2 a3 a4 a5 a6 a7 a8 a9 a10 := by
  intro j
  induction j with
  | zero =>
    intro i a5 hj h
    have e : i = 60 := by omega
    subst e
    exact ⟨a5, h, fun post H => ⟨0 + 1, br_t (by decide) H⟩⟩
  | succ j ih =>
    intro i a5 hj h
    obtain ⟨b5, q1, q2⟩ := ih (i + 1) _ (by omega) (il_fill h)
    refine ⟨b5, q1, fun post H => ?_⟩
    obtain ⟨n, hn⟩ := q2 post H
    exact ⟨n + 1, pk_le 60 i (fun z => absurd z (by omega)) (fun _ => ⟨pk_in i 60 (by omega), nm_r (e' := upd a5 i (-4)) (by rw [nI_clamp (by omega)]) (nm_r (nI_1 i) hn)⟩)⟩
theorem il_init : ∃ (st : Nat → Nat) (b1 b2 b3 b4 b5 b6 b7 b8 b9 b10 : Nat → Int32), il_I st b1 b2 b3 b4 b5 b6 b7 b8 b9 b10 ∧ ∀ post : St1 → Prop, post (b1, b2, b3, b4, b5, b6, b7, b8, b9, b10) → wpX_init post 10 337 () := by
  obtain ⟨b5, p1, p2⟩ := il_in86 (a1 := fun _ => 0) (a2 := fun _ => 0) (a3 := fun _ => 0) (a4 := fun _ => 0) (a6 := fun _ => 0) (a7 := fun _ => 0) (a8 := fun _ => 0) (a9 := fun _ => 0) (a10 := fun _ => 0) 10 337 10 337 60 0 (fun _ => 0) rfl (fun q hq => absurd hq (by omega))
  obtain ⟨b6, b7, b8, q1, q2, q3, q4⟩ := il_in108 (a1 := fun _ => 0) (a2 := fun _ => 0) (a3 := fun _ => 0) (a4 := fun _ => 0) (a5 := b5) (a9 := fun _ => 0) (a10 := fun _ => 0) 10 337 10 337 10 0 (fun _ => 0) (fun _ => 0) (fun _ => 0) rfl (fun q hq => absurd hq (by omega)) (fun q hq => absurd hq (by omega)) (fun q hq => absurd hq (by omega))
  obtain ⟨b3, r1, r2⟩ := il_in146 (a1 := fun _ => 0) (a2 := fun _ => 0) (a4 := fun _ => 0) (a5 := b5) (a6 := b6) (a7 := b7) (a8 := b8) (a9 := fun _ => 0) (a10 := fun _ => 0) 10 337 10 337 48 0 (fun _ => 0) rfl (fun q hq => absurd hq (by omega))
  refine ⟨fun _ => 0, fun _ => 0, fun _ => 0, b3, fun _ => 0, b5, b6, b7, b8, fun _ => 0, fun _ => 0, ⟨⟨fun _ _ => rfl, rfl, fun _ _ => ⟨Nat.le_refl 0, Nat.zero_le 8⟩⟩, ⟨fun p hp => Or.inl (r1 p hp), fun p s hp hs h => ?_, fun s hs => ⟨[], List.nodup_nil, q3 s hs, fun p => ?_⟩⟩, fun p _ hp => r1 p hp, fun k s hk hs => Or.inl (p1 _ (by omega)), fun s hs => ?_⟩, fun post H => ?_⟩
  · rw [r1 p hp] at h
    exact absurd h (il_4n (by omega))
  · constructor
    · exact fun z => absurd z (by simp)
    · intro z
      rw [r1 p z.1] at z
      exact absurd z.2 (il_4n (by omega))
  · have e : il_who b5 s = -4 := by
      rcases il_who_p b5 s with z | ⟨k, k1, _, k3⟩
      · exact z
      · rw [p1 _ (by omega)] at k3
        exact absurd il_4neg k3
    rw [q1 s hs, q2 s hs]
    unfold il_at
    rw [e]
    exact ⟨rfl, rfl⟩
  · exact ⟨by omega, by omega, by omega, by omega, by omega, by omega, by omega, by omega, by omega, by omega, by omega, by omega, by omega, by omega, by omega, by omega, by omega, by omega, by omega, by omega, p2 post (q4 post (r2 post H))⟩
end
end
section
section
variable {a1 a2 a3 a4 a5 a6 a7 a8 a9 a10 : Nat → Int32} {st : Nat → Nat} {post : Int32 → Prop}
theorem il_w_size (hS : il_S a1 st) (H : post (nI (st 6))) : wpX_size post (a1, a2, a3, a4, a5, a6, a7, a8, a9, a10) := by
  show post (a1 6)
  rw [hS.1 6 (by omega)]
  exact H
theorem il_w_bad1 {u : St1} {p : Nat} (hp : 6 ≤ p) (h : p < 2 ^ 31) (H : post 1) : wpX_bad post u (nI p) := by
  obtain ⟨a1, a2, a3, a4, a5, a6, a7, a8, a9, a10⟩ := u
  exact br_f (nI_pos (by omega)) (br_f (nI_nlt (b := 6) hp h) H)
theorem il_w_badName1 {u : St1} {p : Nat} (hp : 10 ≤ p) (h : p < 2 ^ 31) (H : post 1) : wpX_badName post u (nI p) := by
  obtain ⟨a1, a2, a3, a4, a5, a6, a7, a8, a9, a10⟩ := u
  exact br_f (nI_pos (by omega)) (br_f (nI_nlt (b := 10) hp h) H)
theorem il_w_address {m : Nat} (hS : il_S a1 st) (hm : m < 6) (H : post (nI (st m))) : wpX_address post (a1, a2, a3, a4, a5, a6, a7, a8, a9, a10) (nI m) := by
  unfold wpX_address
  refine il_w_bad hm (br_t rfl ⟨pk_in m 7 (by omega), ?_⟩)
  rw [nI_clamp (by omega), hS.1 m (by omega)]
  exact H
theorem il_w_value {p : Nat} (hp : p < 49) (hS : il_S a1 st) (H : post (if p < st 6 then a2 p else 0)) : wpX_value post (a1, a2, a3, a4, a5, a6, a7, a8, a9, a10) (nI p) := by
  have n48 := il_size hS
  unfold wpX_value
  dsimp only
  rw [nI_clamp (show p < 2 ^ 31 by omega), hS.1 6 (by omega)]
  refine br_f (nI_pos (by omega)) ?_
  by_cases c : p < st 6
  · rw [if_pos c] at H
    exact br_t (nI_lt c (by omega)) ⟨pk_in p 48 (by omega), H⟩
  · rw [if_neg c] at H
    exact br_f (nI_nlt (by omega) (by omega)) H
/-! the module at a place -/
def il_mo (a1 : Nat → Int32) (x : Int32) : Nat → Int32 → Int32
  | 0, w => w
  | j + 1, w => il_mo a1 x j (if x < a1 (5 - j) then w else nI (5 - j))
def il_md (a1 : Nat → Int32) (x : Int32) : Int32 := il_mo a1 x 5 0
theorem il_mo_p {p : Nat} (hS : il_S a1 st) (hp : p < 49) : ∀ j m, j ≤ 5 → m < 6 - j → st m ≤ p → (∀ i, m < i → i < 6 - j → p < st i) → ∃ k, k < 6 ∧ il_mo a1 (nI p) j (nI m) = nI k ∧ st k ≤ p ∧ ∀ i, k < i → i < 6 → p < st i := by
  intro j
  induction j with
  | zero => exact fun m _ h1 h2 h3 => ⟨m, h1, rfl, h2, h3⟩
  | succ j ih =>
    intro m hj h1 h2 h3
    have e : il_mo a1 (nI p) (j + 1) (nI m) = il_mo a1 (nI p) j (if nI p < a1 (5 - j) then nI m else nI (5 - j)) := rfl
    have n48 := il_size hS
    have mle := il_S_mono hS (i := 5 - j) (j := 6) (by omega) (by omega)
    rw [e, hS.1 (5 - j) (by omega)]
    by_cases c : p < st (5 - j)
    · rw [if_pos (nI_lt c (by omega))]
      refine ih m (by omega) (by omega) h2 (fun i i1 i2 => ?_)
      by_cases e2 : i = 5 - j
      · rw [e2]
        exact c
      · exact h3 i i1 (by omega)
    · rw [if_neg (nI_nlt (by omega) (by omega))]
      exact ih (5 - j) (by omega) (by omega) (by omega) (fun i i1 i2 => absurd i1 (by omega))
theorem il_md_p {p : Nat} (hS : il_S a1 st) (hp : p < st 6) : ∃ k, k < 6 ∧ il_md a1 (nI p) = nI k ∧ st k ≤ p ∧ p < st (k + 1) := by
  have n48 := il_size hS
  obtain ⟨k, k1, k2, k3, k4⟩ := il_mo_p (p := p) hS (by omega) 5 0 (by omega) (by omega) (by rw [hS.2.1]; omega) (fun i i1 i2 => absurd i1 (by omega))
  refine ⟨k, k1, k2, k3, ?_⟩
  by_cases c : k = 5
  · rw [c]
    exact hp
  · exact k4 (k + 1) (by omega) (by omega)
theorem il_md_u {p m : Nat} (hS : il_S a1 st) (hm : m < 6) (h1 : st m ≤ p) (h2 : p < st (m + 1)) : il_md a1 (nI p) = nI m := by
  have mle := il_S_mono hS (i := m + 1) (j := 6) (by omega) (by omega)
  obtain ⟨k, k1, k2, k3, k4⟩ := il_md_p (p := p) hS (by omega)
  rw [k2]
  by_cases c : k = m
  · rw [c]
  · by_cases d : k < m
    · have z := il_S_mono hS (i := k + 1) (j := m) (by omega) (by omega)
      omega
    · have z := il_S_mono hS (i := m + 1) (j := k) (by omega) (by omega)
      omega
theorem il_w_moduleAt4 {x : Int32} : ∀ (j k : Nat) (w : Int32), k + j = 6 → post (il_mo a1 x j w) → ∃ n, wX_moduleAt_4 post x a1 a2 a3 a4 a5 a6 a7 a8 a9 a10 n w (nI k) := by
  intro j
  induction j with
  | zero =>
    intro k w hj H
    have e : k = 6 := by omega
    subst e
    exact ⟨0 + 1, br_t (by decide) H⟩
  | succ j ih =>
    intro k w hj H
    have e : il_mo a1 x (j + 1) w = il_mo a1 x j (if x < a1 (5 - j) then w else nI (5 - j)) := rfl
    rw [e, show 5 - j = k by omega] at H
    obtain ⟨n, hn⟩ := ih (k + 1) _ (by omega) H
    refine ⟨n + 1, pk_le 6 k (fun z => absurd z (by omega)) (fun _ => ⟨pk_in k 7 (by omega), ?_⟩)⟩
    rw [nI_clamp (show k < 2 ^ 31 by omega)]
    by_cases c : x < a1 k
    · rw [if_pos c] at hn
      exact br_t c (nm_r (nI_1 k) hn)
    · rw [if_neg c] at hn
      exact br_f c (nm_r (nI_1 k) hn)
theorem il_w_moduleAt {x : Int32} (H : post (il_md a1 x)) : wpX_moduleAt post (a1, a2, a3, a4, a5, a6, a7, a8, a9, a10) x :=
  il_w_moduleAt4 5 1 0 rfl H
theorem il_w_moduleOf {p : Nat} (hp : p < 49) (hS : il_S a1 st) (H : post (if p < st 6 then il_md a1 (nI p) else -4)) : wpX_moduleOf post (a1, a2, a3, a4, a5, a6, a7, a8, a9, a10) (nI p) := by
  have n48 := il_size hS
  unfold wpX_moduleOf
  dsimp only
  refine br_f (nI_pos (by omega)) ?_
  by_cases c : p < st 6
  · rw [if_pos c] at H
    exact br_t (by rw [hS.1 6 (by omega)]; exact nI_lt c (by omega)) (il_w_moduleAt H)
  · rw [if_neg c] at H
    exact br_f (by rw [hS.1 6 (by omega)]; exact nI_nlt (by omega) (by omega)) H
theorem il_w_where {p : Nat} (hp : p < 49) (H : post (if p < 10 then a6 p else -4)) : wpX_where post (a1, a2, a3, a4, a5, a6, a7, a8, a9, a10) (nI p) := by
  unfold wpX_where
  by_cases c : p < 10
  · rw [if_pos c] at H
    refine il_w_badName c (br_t rfl ⟨pk_in p 10 c, ?_⟩)
    rw [nI_clamp (by omega)]
    exact H
  · rw [if_neg c] at H
    exact il_w_badName1 (by omega) (by omega) (br_f (by decide) H)
/-! lengths of chains -/
def il_L (nm : Nat → Int32) (s : Nat) : List Nat := (List.range 48).filter (fun p => decide (nm p = nI s))
theorem il_perm {nm : Nat → Int32} {s : Nat} {l : List Nat} (nd : l.Nodup) (mem : ∀ p, p ∈ l ↔ p < 48 ∧ nm p = nI s) : l.Perm (il_L nm s) := by
  refine (List.perm_ext_iff_of_nodup nd (List.Sublist.nodup List.filter_sublist List.nodup_range)).mpr (fun a => ?_)
  rw [mem a, List.mem_filter, List.mem_range, decide_eq_true_iff]
theorem il_cl12 : ∀ (l : List Nat) (h b : Int32) (i c : Nat), il_D a9 a10 h b l → i + l.length ≤ 48 → post (nI (c + l.length)) → ∃ n, wX_chainLength_12 post a1 a2 a3 a4 a5 a6 a7 a8 a9 a10 n (nI c) h (nI i) := by
  intro l
  induction l with
  | nil =>
    intro h b i c d _ H
    have d' : h = -4 := d
    rw [d']
    exact ⟨0 + 1, br_c (fun _ => H) (fun _ => br_t il_4neg H)⟩
  | cons p l ih =>
    intro h b i c d hl H
    obtain ⟨k1, k2, k3, k4⟩ := d
    rw [List.length_cons] at hl H
    rw [show c + (l.length + 1) = (c + 1) + l.length by omega] at H
    obtain ⟨n, hn⟩ := ih _ _ (i + 1) (c + 1) k4 (by omega) H
    refine ⟨n + 1, ?_⟩
    rw [k1]
    exact pk_le 48 i (fun z => absurd z (by omega)) (fun _ => br_f (nI_pos (by omega)) (nm_r (nI_1 c) ⟨pk_in p 48 k2, nm_r (e' := a9 p) (by rw [nI_clamp (by omega)]) (nm_r (nI_1 i) hn)⟩))
theorem il_w_chainLength {s : Nat} (hs : s < 10) (hC : il_C a3 a8 a9 a10) (H : post (nI (il_L a3 s).length)) : wpX_chainLength post (a1, a2, a3, a4, a5, a6, a7, a8, a9, a10) (nI s) := by
  obtain ⟨l, nd, dl, mem⟩ := hC s hs
  have len : l.length ≤ 48 := il_len nd (fun q hq => ((mem q).mp hq).1)
  unfold wpX_chainLength
  rw [nI_clamp (show s < 2 ^ 31 by omega)]
  rw [← (il_perm nd mem).length_eq] at H
  exact ⟨pk_in s 10 hs, nm_e (il_cl12 l (a8 s) (-4) 0 0 dl (by omega) (by rw [Nat.zero_add]; exact H))⟩
theorem il_w_uses {p : Nat} (hp : p < 49) (hC : il_C a3 a8 a9 a10) (H : post (if p < 10 then nI (il_L a3 p).length else -1)) : wpX_uses post (a1, a2, a3, a4, a5, a6, a7, a8, a9, a10) (nI p) := by
  unfold wpX_uses
  by_cases c : p < 10
  · rw [if_pos c] at H
    exact il_w_badName c (br_t rfl (il_w_chainLength c hC H))
  · rw [if_neg c] at H
    exact il_w_badName1 (by omega) (by omega) (br_f (by decide) H)
def il_un (a3 a6 : Nat → Int32) : Nat → Nat
  | 0 => 0
  | j + 1 => il_un a3 a6 j + (if 0 ≤ a6 j then 0 else (il_L a3 j).length)
theorem il_w_undefined (hC : il_C a3 a8 a9 a10) (H : post (nI (il_un a3 a6 10))) : wpX_undefined post (a1, a2, a3, a4, a5, a6, a7, a8, a9, a10) := by
  refine pk_loop (σ := Unit) (fun n i _ => wX_undefined_4 post a1 a2 a3 a4 a5 a6 a7 a8 a9 a10 n (nI (il_un a3 a6 i)) (nI i)) (fun _ _ => True) 10 0 () (by omega) trivial (fun n _ _ => br_t (by decide) H) (fun n i _ hi _ hw => ?_)
  refine pk_le 10 i (fun z => absurd z (by omega)) (fun _ => ⟨pk_in i 10 hi, ?_⟩)
  rw [nI_clamp (show i < 2 ^ 31 by omega)]
  have e : il_un a3 a6 (i + 1) = il_un a3 a6 i + (if 0 ≤ a6 i then 0 else (il_L a3 i).length) := rfl
  have hn := hw () trivial
  rw [e] at hn
  by_cases c : 0 ≤ a6 i
  · rw [if_pos c, Nat.add_zero] at hn
    exact br_t c (nm_r (nI_1 i) hn)
  · rw [if_neg c] at hn
    exact br_f c (il_w_chainLength hi hC (nm_r (nI_add _ _) (nm_r (nI_1 i) hn)))
/-! who uses a module -/
def il_or (a1 : Nat → Int32) (z : Int32) (p : Nat) : Int32 := z ||| ((1 : Int32) <<< (il_md a1 (nI p) &&& 31))
theorem il_or_c (z : Int32) (x y : Nat) : il_or a1 (il_or a1 z x) y = il_or a1 (il_or a1 z y) x := by
  unfold il_or
  rw [Int32.or_assoc, Int32.or_assoc, Int32.or_comm ((1 : Int32) <<< (il_md a1 (nI x) &&& 31))]
theorem il_us46 {s : Nat} {x1 : Int32} (J : Int32 → Int32 → Prop) : ∀ (l : List Nat) (h b : Int32) (i : Nat) (c : Int32), il_D a9 a10 h b l → i + l.length ≤ 48 → J (l.foldl (il_or a1) c) (nI (s + 1)) → ∃ n, wX_users_46 post J x1 (nI s) a1 a2 a3 a4 a5 a6 a7 a8 a9 a10 n c h (nI i) := by
  intro l
  induction l with
  | nil =>
    intro h b i c d _ H
    have d' : h = -4 := d
    rw [d']
    exact ⟨0 + 1, br_c (fun _ => nm_r (nI_1 s) H) (fun _ => br_t il_4neg (nm_r (nI_1 s) H))⟩
  | cons p l ih =>
    intro h b i c d hl H
    obtain ⟨k1, k2, k3, k4⟩ := d
    rw [List.length_cons] at hl
    rw [List.foldl_cons] at H
    obtain ⟨n, hn⟩ := ih _ _ (i + 1) _ k4 (by omega) H
    refine ⟨n + 1, ?_⟩
    rw [k1]
    exact pk_le 48 i (fun z => absurd z (by omega)) (fun _ => br_f (nI_pos (by omega)) (il_w_moduleAt (nm_e ⟨pk_in p 48 k2, nm_r (e' := a9 p) (by rw [nI_clamp (by omega)]) (nm_r (nI_1 i) hn)⟩)))
theorem il_us14 (a1 a3 a7 : Nat → Int32) (x1 : Int32) : ∀ (j s : Nat) (c : Int32), s + j = 10 → ∃ r : Int32, ∀ (a2 a4 a5 a6 a8 a9 a10 : Nat → Int32), il_C a3 a8 a9 a10 → ∀ post : Int32 → Prop, post r → ∃ n, wX_users_14 post x1 a1 a2 a3 a4 a5 a6 a7 a8 a9 a10 n c (nI s) := by
  intro j
  induction j with
  | zero =>
    intro s c hj
    have e : s = 10 := by omega
    subst e
    exact ⟨c, fun a2 a4 a5 a6 a8 a9 a10 _ post H => ⟨0 + 1, br_t (by decide) H⟩⟩
  | succ j ih =>
    intro s c hj
    obtain ⟨r, hr⟩ := ih (s + 1) (if a7 s = x1 then (il_L a3 s).foldl (il_or a1) c else c) (by omega)
    refine ⟨r, fun a2 a4 a5 a6 a8 a9 a10 hC post H => ?_⟩
    obtain ⟨n, hn⟩ := hr a2 a4 a5 a6 a8 a9 a10 hC post H
    obtain ⟨l, nd, dl, mem⟩ := hC s (by omega)
    have len : l.length ≤ 48 := il_len nd (fun q hq => ((mem q).mp hq).1)
    refine ⟨n + 1, pk_le 10 s (fun z => absurd z (by omega)) (fun _ => ⟨pk_in s 10 (by omega), ?_⟩)⟩
    rw [nI_clamp (show s < 2 ^ 31 by omega)]
    by_cases e : a7 s = x1
    · rw [if_pos e, ← List.Perm.foldl_eq' (il_perm nd mem) (fun x _ y _ z => il_or_c z x y)] at hn
      exact br_t e ⟨pk_in s 10 (by omega), nm_e (il_us46 _ l (a8 s) (-4) 0 c dl (by omega) hn)⟩
    · rw [if_neg e] at hn
      exact br_f e (il_us46 _ [] (-4) (-4) 0 c rfl (by decide) hn)
theorem il_users (a1 a3 a7 : Nat → Int32) {p : Nat} (hp : p < 49) : ∃ r : Int32, ∀ (a2 a4 a5 a6 a8 a9 a10 : Nat → Int32), il_C a3 a8 a9 a10 → ∀ post : Int32 → Prop, post r → wpX_users post (a1, a2, a3, a4, a5, a6, a7, a8, a9, a10) (nI p) := by
  by_cases c : p < 6
  · obtain ⟨r, hr⟩ := il_us14 a1 a3 a7 (nI p) 10 0 0 rfl
    refine ⟨r, fun a2 a4 a5 a6 a8 a9 a10 hC post H => ?_⟩
    unfold wpX_users
    exact il_w_bad c (br_t rfl (hr a2 a4 a5 a6 a8 a9 a10 hC post H))
  · refine ⟨-1, fun a2 a4 a5 a6 a8 a9 a10 hC post H => ?_⟩
    unfold wpX_users
    exact il_w_bad1 (by omega) (by omega) (br_f (by decide) H)
/-! digest, idle -/
theorem il_digest4 (a2 : Nat → Int32) {N : Nat} (hN : N ≤ 48) : ∀ (j i : Nat) (c : Int32), i + j = N → ∃ r : Int32, ∀ (a1 c2 a3 a4 a5 a6 a7 a8 a9 a10 : Nat → Int32), a1 6 = nI N → (∀ q, q < N → c2 q = a2 q) → ∀ post : Int32 → Prop, post r → ∃ n, wX_digest_4 post a1 c2 a3 a4 a5 a6 a7 a8 a9 a10 n c (nI i) := by
  intro j
  induction j with
  | zero =>
    intro i c hj
    exact ⟨c, fun a1 c2 a3 a4 a5 a6 a7 a8 a9 a10 h6 _ post H => ⟨0 + 1, br_t (by rw [h6]; exact nI_le (by omega) (by omega)) H⟩⟩
  | succ j ih =>
    intro i c hj
    obtain ⟨r, hr⟩ := ih (i + 1) (c + ((nI i + 1) * a2 i)) (by omega)
    refine ⟨r, fun a1 c2 a3 a4 a5 a6 a7 a8 a9 a10 h6 h2 post H => ?_⟩
    obtain ⟨n, hn⟩ := hr a1 c2 a3 a4 a5 a6 a7 a8 a9 a10 h6 h2 post H
    exact ⟨n + 1, br_f (by rw [h6]; exact nI_ge (by omega) (by omega)) ⟨pk_in i 48 (by omega), nm_r (by rw [nI_clamp (by omega), h2 i (by omega)]) (nm_r (nI_1 i) hn)⟩⟩
theorem il_digest (a2 : Nat → Int32) {N : Nat} (hN : N ≤ 48) : ∃ r : Int32, ∀ (a1 c2 a3 a4 a5 a6 a7 a8 a9 a10 : Nat → Int32), a1 6 = nI N → (∀ q, q < N → c2 q = a2 q) → ∀ post : Int32 → Prop, post r → wpX_digest post (a1, c2, a3, a4, a5, a6, a7, a8, a9, a10) := by
  obtain ⟨r, hr⟩ := il_digest4 a2 hN N 0 0 (by omega)
  exact ⟨r, fun a1 c2 a3 a4 a5 a6 a7 a8 a9 a10 h6 h2 post H => hr a1 c2 a3 a4 a5 a6 a7 a8 a9 a10 h6 h2 post H⟩
theorem il_idle12 (a5 a7 : Nat → Int32) {s : Nat} (hs : s < 10) : ∀ (j k : Nat) (c : Int32), k + j = 6 → ∃ r : Int32, ∀ (a1 a2 a3 a4 a6 a8 a9 a10 : Nat → Int32) (post : Int32 → Prop) (J : Int32 → Int32 → Prop), J r (nI (s + 1)) → ∃ n, wX_idle_12 post J (nI s) a1 a2 a3 a4 a5 a6 a7 a8 a9 a10 n c (nI k) := by
  intro j
  induction j with
  | zero =>
    intro k c hj
    have e : k = 6 := by omega
    subst e
    exact ⟨c, fun a1 a2 a3 a4 a6 a8 a9 a10 post J H => ⟨0 + 1, br_t (by decide) (nm_r (nI_1 s) H)⟩⟩
  | succ j ih =>
    intro k c hj
    obtain ⟨r, hr⟩ := ih (k + 1) (if a5 (k * 10 + s) < 0 then c else if nI k = a7 s then c else c + 1) (by omega)
    refine ⟨r, fun a1 a2 a3 a4 a6 a8 a9 a10 post J H => ?_⟩
    obtain ⟨n, hn⟩ := hr a1 a2 a3 a4 a6 a8 a9 a10 post J H
    refine ⟨n + 1, pk_le 6 k (fun z => absurd z (by omega)) (fun _ => ⟨pk_in (k * 10 + s) 60 (by omega) (il_ix k s), ?_⟩)⟩
    rw [il_ix, nI_clamp (show k * 10 + s < 2 ^ 31 by omega), nI_clamp (show s < 2 ^ 31 by omega)]
    by_cases e : a5 (k * 10 + s) < 0
    · rw [if_pos e] at hn
      exact br_t e (nm_r (nI_1 k) hn)
    · rw [if_neg e] at hn
      refine br_f e ⟨pk_in s 10 hs, ?_⟩
      by_cases e2 : nI k = a7 s
      · rw [if_pos e2] at hn
        exact br_t e2 (nm_r (nI_1 k) hn)
      · rw [if_neg e2] at hn
        exact br_f e2 (nm_e (nm_r (nI_1 k) hn))
theorem il_idle4 (a5 a7 : Nat → Int32) : ∀ (j s : Nat) (c : Int32), s + j = 10 → ∃ r : Int32, ∀ (a1 a2 a3 a4 a6 a8 a9 a10 : Nat → Int32) (post : Int32 → Prop), post r → ∃ n, wX_idle_4 post a1 a2 a3 a4 a5 a6 a7 a8 a9 a10 n c (nI s) := by
  intro j
  induction j with
  | zero =>
    intro s c hj
    have e : s = 10 := by omega
    subst e
    exact ⟨c, fun a1 a2 a3 a4 a6 a8 a9 a10 post H => ⟨0 + 1, br_t (by decide) H⟩⟩
  | succ j ih =>
    intro s c hj
    obtain ⟨r0, h0⟩ := il_idle12 a5 a7 (s := s) (by omega) 6 0 c rfl
    obtain ⟨r, hr⟩ := ih (s + 1) r0 (by omega)
    refine ⟨r, fun a1 a2 a3 a4 a6 a8 a9 a10 post H => ?_⟩
    obtain ⟨n, hn⟩ := hr a1 a2 a3 a4 a6 a8 a9 a10 post H
    exact ⟨n + 1, pk_le 10 s (fun z => absurd z (by omega)) (fun _ => h0 a1 a2 a3 a4 a6 a8 a9 a10 post _ hn)⟩
theorem il_idle (a5 a7 : Nat → Int32) : ∃ r : Int32, ∀ (a1 a2 a3 a4 a6 a8 a9 a10 : Nat → Int32) (post : Int32 → Prop), post r → wpX_idle post (a1, a2, a3, a4, a5, a6, a7, a8, a9, a10) := by
  obtain ⟨r, hr⟩ := il_idle4 a5 a7 10 0 0 rfl
  exact ⟨r, fun a1 a2 a3 a4 a6 a8 a9 a10 post H => hr a1 a2 a3 a4 a6 a8 a9 a10 post H⟩
end
end
section
section
variable {a1 a2 a3 a4 a5 a6 a7 a8 a9 a10 c2 c4 c8 c9 c10 : Nat → Int32} {st : Nat → Nat} {post : Int32 → Prop}
/-! the two look alike -/
theorem il_eq2 (hS : il_S a1 st) (hC : il_C a3 a8 a9 a10) (hC' : il_C a3 c8 c9 c10) (h2 : ∀ q, q < st 6 → c2 q = a2 q) (H : post 1) :
    ∀ j i, i + j = 49 → ∃ n, wL_equal_2 post a1 a2 a3 a4 a5 a6 a7 a8 a9 a10 a1 c2 a3 c4 a5 a6 a7 c8 c9 c10 n (nI i) := by
  intro j
  induction j with
  | zero =>
    intro i hj
    have e : i = 49 := by omega
    subst e
    obtain ⟨rd, hd⟩ := il_digest a2 (il_size hS)
    obtain ⟨ri, hi⟩ := il_idle a5 a7
    have h6 := hS.1 6 (by omega)
    refine ⟨0 + 1, br_t (by decide) (il_w_size hS (il_w_size hS (br_t rfl ?_)))⟩
    refine hd _ _ _ _ _ _ _ _ _ _ h6 (fun _ _ => rfl) _ (hd _ _ _ _ _ _ _ _ _ _ h6 h2 _ (br_t rfl ?_))
    exact il_w_undefined hC (il_w_undefined hC' (br_t rfl (hi _ _ _ _ _ _ _ _ _ (hi _ _ _ _ _ _ _ _ _ (br_t rfl H)))))
  | succ j ih =>
    intro i hj
    obtain ⟨n, hn⟩ := ih (i + 1) (by omega)
    obtain ⟨r, hr⟩ := il_users a1 a3 a7 (p := i) (by omega)
    have hi : i < 49 := by omega
    have e2 : (if i < st 6 then a2 i else 0) = (if i < st 6 then c2 i else 0) := by
      by_cases c : i < st 6
      · rw [if_pos c, if_pos c, h2 i c]
      · rw [if_neg c, if_neg c]
    refine ⟨n + 1, pk_le 49 i (fun z => absurd z (by omega)) (fun _ => il_w_value hi hS (il_w_value hi hS (br_t e2 ?_)))⟩
    refine il_w_moduleOf hi hS (il_w_moduleOf hi hS (br_t rfl (il_w_where hi (il_w_where hi (br_t rfl ?_)))))
    refine il_w_uses hi hC (il_w_uses hi hC' (br_t rfl ?_))
    exact hr _ _ _ _ _ _ _ hC _ (hr _ _ _ _ _ _ _ hC' _ (br_t rfl (nm_r (nI_1 i) hn)))
theorem il_equal (hS : il_S a1 st) (hC : il_C a3 a8 a9 a10) (hC' : il_C a3 c8 c9 c10) (h2 : ∀ q, q < st 6 → c2 q = a2 q) (H : post 1) :
    wpL_equal post (a1, a2, a3, a4, a5, a6, a7, a8, a9, a10, a1, c2, a3, c4, a5, a6, a7, c8, c9, c10) :=
  il_eq2 hS hC hC' h2 H 49 0 rfl
/-! in and out again -/
theorem il_bk1 (f : Nat → Int32) (k : Nat) : il_s2 (il_s1 f k) k = f := by
  funext i
  simp only [il_s2, il_s1]
  by_cases c : k ≤ i ∧ i ≤ 6
  · rw [if_pos c, if_pos c, Int32.add_sub_cancel]
  · rw [if_neg c, if_neg c]
theorem il_bk (f : Nat → Int32) {p n q : Nat} (x : Int32) (hp : p ≤ n) (hq : q ≠ n) : il_dn (upd (il_up f p n) p x) p (n + 1) q = f q := by
  simp only [il_dn]
  by_cases c : p ≤ q ∧ q + 1 < n + 1
  · rw [if_pos c, pk_un (by omega)]
    simp only [il_up]
    rw [if_pos (by omega), show q + 1 - 1 = q by omega]
  · rw [if_neg c, pk_un (by omega)]
    simp only [il_up]
    rw [if_neg (by omega)]
theorem il_bk3 {p n : Nat} (hp : p ≤ n) (h : a3 n = -4) : upd (il_dn (upd (il_up a3 p n) p (-4)) p (n + 1)) n (-4) = a3 := by
  funext q
  by_cases e : q = n
  · rw [e, pk_us, h]
  · rw [pk_un e, il_bk a3 _ hp e]
theorem il_bk5 {m w : Nat} (hF : il_F a5 st) (hS : il_S a1 st) (hm : m < 6) (hw : w < 2 ^ 31) : il_d2 (il_d1 a5 m w 0) m w 0 = a5 := by
  funext i
  have k8 := hS.2.2 m hm
  by_cases r : m * 10 ≤ i ∧ i < m * 10 + 10
  · by_cases c : a5 i < nI w
    · have e : il_d1 a5 m w 0 i = a5 i := if_neg (fun y => y.2.2 c)
      simp only [il_d2]
      rw [e, if_neg (fun y => y.2.2 (Int32.le_of_lt c))]
    · have e : il_d1 a5 m w 0 i = a5 i + 1 := if_pos ⟨by omega, by omega, c⟩
      simp only [il_d2]
      rw [e]
      have hF' := hF m (i - m * 10) hm (by omega)
      rw [show m * 10 + (i - m * 10) = i by omega] at hF'
      rcases hF' with z | ⟨d, d1, d2⟩
      · exact absurd (show a5 i < nI w by rw [z]; exact il_4lt hw) c
      · have cw : w ≤ d := by
          rcases Nat.lt_or_ge d w with y | y
          · exact absurd (show a5 i < nI w by rw [d2]; exact nI_lt y hw) c
          · exact y
        rw [if_pos ⟨by omega, by omega, by rw [d2, nI_1]; exact nI_ge (by omega) (by omega)⟩, Int32.add_sub_cancel]
  · have e : il_d1 a5 m w 0 i = a5 i := if_neg (fun y => r ⟨by omega, y.2.1⟩)
    simp only [il_d2]
    rw [e, if_neg (fun y => r ⟨by omega, y.2.1⟩)]
theorem il_law324 {L : Nat} {xs : Nat → Int32} {x3 : Int32} {kc ks : Nat} (hI : il_I st a1 a2 a3 a4 a5 a6 a7 a8 a9 a10) (H : post 1) :
    wL_law_324 post L xs x3 (nI (st 6)) kc ks a1 a2 a3 a4 a5 a6 a7 a8 a9 a10 a1 a2 a3 a4 a5 a6 a7 a8 a9 a10 := by
  obtain ⟨m, hm, em⟩ := il_m6 x3
  obtain ⟨w, hw, ew⟩ := pk_andE (x3 >>> ((3 : Int32) &&& 31)) (m := 7) 3 (by decide)
  have hS := hI.1
  have hC := hI.2.1.2.2
  have n48 := il_size hS
  have k8 := hS.2.2 m hm
  have mle : st (m + 1) ≤ st 6 := il_S_mono hS (by omega) (by omega)
  unfold wL_law_324
  refine ⟨by decide, nm_r em (nm_r ew ?_)⟩
  by_cases c : st m + w ≤ st (m + 1) ∧ st (m + 1) < st m + 8
  · obtain ⟨b2, b6, b7, b8, b9, b10, f1, f2, f3, f4⟩ := il_insert_ok hI hm x3 c.1 c.2
    have n47 := il_room hS hm c.2
    have t0 : il_t1 st m m = st m := il_t1_lo (by omega)
    have t1 : il_t1 st m (m + 1) = st (m + 1) + 1 := il_t1_hi (by omega)
    have t6 : il_t1 st m 6 = st 6 + 1 := il_t1_hi (by omega)
    obtain ⟨d2, d6, d7, d8, d9, d10, g1, g2, g3, g4⟩ := il_delete_ok f1 hm (w := w) (by rw [t0, t1]; omega)
    rw [t0, t6, show st 6 + 1 - 1 = st 6 by omega] at g1 g2 g4
    rw [t1] at g4
    have e3 : upd (il_dn (upd (il_up a3 (st m + w) (st 6)) (st m + w) (-4)) (st m + w) (st 6 + 1)) (st 6) (-4) = a3 := il_bk3 (by omega) (hI.2.2.1 _ (Nat.le_refl _) n47)
    have e5 : il_d2 (il_d1 a5 m w 0) m w 0 = a5 := il_bk5 hI.2.2.2.1 hS hm (by omega)
    have e1 : il_s2 (il_s1 a1 (m + 1)) (m + 1) = a1 := il_bk1 a1 (m + 1)
    rw [e1, e3, e5] at g1 g4
    rw [e3] at g2
    have e6 : d6 = a6 := by
      funext t
      by_cases ct : t < 10
      · rw [(g1.2.2.2.2 t ct).1, (hI.2.2.2.2 t ct).1]
      · rw [(g3 t (by omega)).1, (f3 t (by omega)).1]
    have e7 : d7 = a7 := by
      funext t
      by_cases ct : t < 10
      · rw [(g1.2.2.2.2 t ct).2, (hI.2.2.2.2 t ct).2]
      · rw [(g3 t (by omega)).2, (f3 t (by omega)).2]
    rw [e6, e7] at g1 g4
    have e2 : ∀ q, q < st 6 → d2 q = a2 q := by
      intro q hq
      have q48 : q < 48 := by omega
      rcases hI.2.1.1 q q48 with z | ⟨s, hs, z⟩
      · rw [g2 q z]
        have z3 := il_bk a3 (p := st m + w) (n := st 6) (q := q) (-4) (by omega) (by omega)
        have z2 := il_bk a2 (p := st m + w) (n := st 6) (q := q) x3 (by omega) (by omega)
        rw [← z2]
        rw [z] at z3
        simp only [il_dn] at z3 ⊢
        by_cases cq : st m + w ≤ q ∧ q + 1 < st 6 + 1
        · rw [if_pos cq] at z3
          rw [if_pos cq, if_pos cq]
          exact f2 _ z3
        · rw [if_neg cq] at z3
          rw [if_neg cq, if_neg cq]
          exact f2 _ z3
      · rw [g1.2.1.2.1 q s q48 hs z, hI.2.1.2.1 q s q48 hs z, il_bk a4 _ (by omega) (by omega)]
    have ev : (if st m + w < il_t1 st m 6 then b2 (st m + w) else 0) = x3 := by
      rw [if_pos (by rw [t6]; omega), f2 _ pk_us, pk_us]
    have emd : (if st m + w < il_t1 st m 6 then il_md (il_s1 a1 (m + 1)) (nI (st m + w)) else -4) = nI m := by
      rw [if_pos (by rw [t6]; omega)]
      exact il_md_u f1.1 hm (by rw [t0]; omega) (by rw [t1]; omega)
    refine f4 _ (br_t (nI_pos' (by omega)) (il_w_address f1.1 hm (nm_r (e' := nI (st m + w)) (by rw [t0, nI_add]) ?_)))
    refine il_w_value (by omega) f1.1 (br_t ev (il_w_moduleOf (by omega) f1.1 (br_t emd (il_w_size f1.1 (br_t (by rw [t6, nI_1]) ?_)))))
    refine g4 _ (br_t ?_ (il_equal hS hC g1.2.1.2.2 e2 (br_f (by decide) H)))
    rw [nI_pred, show st (m + 1) + 1 - st m - 1 = st (m + 1) - st m by omega]
  · obtain ⟨r, hr, h⟩ := il_insert_no hI hm hw x3 c
    exact h _ (br_f (Int32.not_le.mpr hr) (il_equal hS hC hC (fun _ _ => rfl) H))
end
end
section
section
variable {a1 a2 a3 a4 a5 a6 a7 a8 a9 a10 : Nat → Int32} {st : Nat → Nat} {post : Int32 → Prop} {L : Nat} {xs : Nat → Int32} {x3 : Int32} {kc ks : Nat}
theorem il_kn (hI : il_I st a1 a2 a3 a4 a5 a6 a7 a8 a9 a10) {s : Nat} (hs : s < 10) : a6 s = -4 ∨ 0 ≤ a6 s := by
  obtain ⟨hS, hW, hE, hF, hK⟩ := hI
  have n48 := il_size hS
  rw [(hK s hs).1]
  unfold il_at
  rcases il_who_p a5 s with z | ⟨m, m1, m2, m3⟩
  · rw [z]
    exact Or.inl rfl
  · rw [m2]
    unfold il_av
    rw [if_pos (nI_pos' (by omega)), nI_clamp (by omega)]
    have k8 := hS.2.2 m m1
    have mle : st m ≤ st 6 := il_S_mono hS (by omega) (by omega)
    rcases hF m s m1 hs with z | ⟨d, d1, d2⟩
    · rw [z] at m3
      exact absurd il_4neg m3
    · rw [d2, hS.1 m (by omega), nI_add]
      exact Or.inr (nI_pos' (by omega))
theorem il_len48 (nm : Nat → Int32) (s : Nat) : (il_L nm s).length ≤ 48 := by
  have k := List.length_filter_le (fun p => decide (nm p = nI s)) (List.range 48)
  rw [List.length_range] at k
  exact k
theorem il_un_le (a3 a6 : Nat → Int32) : ∀ i, il_un a3 a6 i ≤ 48 * i := by
  intro i
  induction i with
  | zero => exact Nat.le_refl 0
  | succ i ih =>
    have e : il_un a3 a6 (i + 1) = il_un a3 a6 i + (if 0 ≤ a6 i then 0 else (il_L a3 i).length) := rfl
    have k := il_len48 a3 i
    rw [e]
    by_cases c : 0 ≤ a6 i
    · rw [if_pos c]
      omega
    · rw [if_neg c]
      omega
theorem il_un_0 (a3 a6 : Nat → Int32) : ∀ i, (∀ j, j < i → (il_L a3 j).length = 0 ∨ 0 ≤ a6 j) → il_un a3 a6 i = 0 := by
  intro i
  induction i with
  | zero => exact fun _ => rfl
  | succ i ih =>
    intro h
    have e : il_un a3 a6 (i + 1) = il_un a3 a6 i + (if 0 ≤ a6 i then 0 else (il_L a3 i).length) := rfl
    rw [e, ih (fun j hj => h j (by omega))]
    rcases h i (by omega) with z | z
    · rw [z]
      by_cases c : 0 ≤ a6 i
      · rw [if_pos c]
      · rw [if_neg c]
    · rw [if_pos z]
theorem il_un_pos (a3 a6 : Nat → Int32) : ∀ i, (∃ j, j < i ∧ ¬ (il_L a3 j).length = 0 ∧ ¬ 0 ≤ a6 j) → 0 < il_un a3 a6 i := by
  intro i
  induction i with
  | zero =>
    intro h
    obtain ⟨j, hj, _⟩ := h
    exact absurd hj (by omega)
  | succ i ih =>
    intro h
    obtain ⟨j, hj, h1, h2⟩ := h
    have e : il_un a3 a6 (i + 1) = il_un a3 a6 i + (if 0 ≤ a6 i then 0 else (il_L a3 i).length) := rfl
    rw [e]
    by_cases c : j = i
    · subst c
      rw [if_neg h2]
      omega
    · have k := ih ⟨j, by omega, h1, h2⟩
      omega
theorem il_law235 (hI : il_I st a1 a2 a3 a4 a5 a6 a7 a8 a9 a10) (H : post 1) :
    ∀ (j i : Nat) (x8 : Int32), i + j = 10 → ((x8 = 1 ∧ ∀ t, t < i → (il_L a3 t).length = 0 ∨ 0 ≤ a6 t) ∨ (x8 = 0 ∧ ∃ t, t < i ∧ ¬ (il_L a3 t).length = 0 ∧ ¬ 0 ≤ a6 t)) →
      ∃ n, wL_law_235 post L xs x3 (nI (st 6)) (nI (st 6)) kc ks a1 a2 a3 a4 a5 a6 a7 a8 a9 a10 a1 a2 a3 a4 a5 a6 a7 a8 a9 a10 n x8 (nI i) := by
  have hS := hI.1
  have hC := hI.2.1.2.2
  have n48 := il_size hS
  intro j
  induction j with
  | zero =>
    intro i x8 hj h
    have e : i = 10 := by omega
    subst e
    refine ⟨0 + 1, br_t (by decide) (br_t rfl (il_w_moduleOf (by omega) hS (br_t (if_neg (by omega)) ?_)))⟩
    rcases h with ⟨z, h⟩ | ⟨z, h⟩
    · subst z
      refine br_f (by decide) (il_w_undefined hC (br_t (by rw [il_un_0 a3 a6 10 h]; rfl) ?_))
      exact br_f (by decide) (il_law324 hI H)
    · subst z
      have k := il_un_pos a3 a6 10 h
      have k2 := il_un_le a3 a6 10
      exact br_t rfl (br_t rfl (il_w_undefined hC (br_f (nI_ne0 k (by omega)) (il_law324 hI H))))
  | succ j ih =>
    intro i x8 hj h
    rcases h with ⟨z, h⟩ | ⟨z, t, t1, t2⟩
    · subst z
      by_cases c : (il_L a3 i).length = 0
      · obtain ⟨n, hn⟩ := ih (i + 1) 1 (by omega) (Or.inl ⟨rfl, lt_s h (Or.inl c)⟩)
        refine ⟨n + 1, pk_le 10 i (fun z => absurd z (by omega)) (fun _ => br_f (by decide) (il_w_uses (by omega) hC (br_t ?_ (nm_r (nI_1 i) hn))))⟩
        rw [if_pos (by omega), c]
        rfl
      · have len := il_len48 a3 i
        rcases il_kn hI (s := i) (by omega) with y | y
        · obtain ⟨n, hn⟩ := ih (i + 1) 0 (by omega) (Or.inr ⟨rfl, i, by omega, c, by rw [y]; decide⟩)
          refine ⟨n + 1, pk_le 10 i (fun z => absurd z (by omega)) (fun _ => br_f (by decide) (il_w_uses (by omega) hC (br_f ?_ (il_w_where (by omega) (br_t ?_ (nm_r (nI_1 i) hn))))))⟩
          · rw [if_pos (by omega)]
            exact nI_ne0 (by omega) (by omega)
          · rw [if_pos (by omega), y]
        · obtain ⟨n, hn⟩ := ih (i + 1) 1 (by omega) (Or.inl ⟨rfl, lt_s h (Or.inr y)⟩)
          refine ⟨n + 1, pk_le 10 i (fun z => absurd z (by omega)) (fun _ => br_f (by decide) (il_w_uses (by omega) hC (br_f ?_ (il_w_where (by omega) (br_f ?_ (nm_r (nI_1 i) hn))))))⟩
          · rw [if_pos (by omega)]
            exact nI_ne0 (by omega) (by omega)
          · rw [if_pos (by omega)]
            intro e
            rw [e] at y
            exact absurd y (by decide)
    · subst z
      obtain ⟨n, hn⟩ := ih (i + 1) 0 (by omega) (Or.inr ⟨rfl, t, by omega, t2⟩)
      exact ⟨n + 1, pk_le 10 i (fun z => absurd z (by omega)) (fun _ => br_t rfl (nm_r (nI_1 i) hn))⟩
theorem il_law149 (hI : il_I st a1 a2 a3 a4 a5 a6 a7 a8 a9 a10) (H : post 1) :
    ∀ (j i last : Nat), i + j = st 6 → last < 6 → st last ≤ i →
      ∃ n, wL_law_149 post L xs x3 (nI (st 6)) kc ks a1 a2 a3 a4 a5 a6 a7 a8 a9 a10 a1 a2 a3 a4 a5 a6 a7 a8 a9 a10 n (nI last) (nI i) (nI i) := by
  have hS := hI.1
  have n48 := il_size hS
  intro j
  induction j with
  | zero =>
    intro i last hj hl h
    have e : i = st 6 := by omega
    subst e
    have k : ∃ n, wL_law_235 post L xs x3 (nI (st 6)) (nI (st 6)) kc ks a1 a2 a3 a4 a5 a6 a7 a8 a9 a10 a1 a2 a3 a4 a5 a6 a7 a8 a9 a10 n 1 (nI 0) := il_law235 hI H 10 0 1 rfl (Or.inl ⟨rfl, fun t ht => absurd ht (by omega)⟩)
    exact ⟨0 + 1, br_c (fun _ => k) (fun _ => br_t (nI_le (Nat.le_refl _) (by omega)) k)⟩
  | succ j ih =>
    intro i last hj hl h
    obtain ⟨k, k1, k2, k3, k4⟩ := il_md_p (p := i) hS (by omega)
    have lk : last ≤ k := by
      rcases Nat.lt_or_ge k last with y | y
      · have z := il_S_mono hS (i := k + 1) (j := last) (by omega) (by omega)
        omega
      · exact y
    obtain ⟨n, hn⟩ := ih (i + 1) k (by omega) k1 (by omega)
    have mle := il_S_mono hS (i := k + 1) (j := 6) (by omega) (by omega)
    refine ⟨n + 1, pk_le 48 i (fun z => absurd z (by omega)) (fun _ => br_f (nI_ge (by omega) (by omega)) (il_w_moduleOf (by omega) hS ?_))⟩
    rw [if_pos (by omega), k2]
    refine br_f (nI_nlt lk (by omega)) (br_f (nI_nlt (a := 5) (by omega) (by omega)) (il_w_address hS k1 (br_f (nI_nlt k3 (by omega)) ?_)))
    refine pk_le 5 k (fun _ => nm_r (nI_1 i) (nm_r (nI_1 i) hn)) (fun z => ?_)
    rw [nI_1 k]
    exact il_w_address hS (by omega) (br_t (nI_lt k4 (by omega)) (nm_r (nI_1 i) (nm_r (nI_1 i) hn)))
theorem il_law92 (hI : il_I st a1 a2 a3 a4 a5 a6 a7 a8 a9 a10) (H : post 1) :
    ∀ (j i at0 : Nat), i + j = 6 → at0 ≤ st i →
      ∃ n, wL_law_92 post L xs x3 (nI (st 6)) 0 kc ks a1 a2 a3 a4 a5 a6 a7 a8 a9 a10 a1 a2 a3 a4 a5 a6 a7 a8 a9 a10 n (nI at0) (nI i) := by
  have hS := hI.1
  have n48 := il_size hS
  intro j
  induction j with
  | zero =>
    intro i at0 hj h
    have e : i = 6 := by omega
    subst e
    exact ⟨0 + 1, br_t (by decide) (il_law149 hI H (st 6) 0 0 (by omega) (by omega) (by rw [hS.2.1]; omega))⟩
  | succ j ih =>
    intro i at0 hj h
    have mle := il_S_mono hS (i := i) (j := 6) (by omega) (by omega)
    obtain ⟨n, hn⟩ := ih (i + 1) (st i) (by omega) (hS.2.2 i (by omega)).1
    refine ⟨n + 1, pk_le 6 i (fun z => absurd z (by omega)) (fun _ => il_w_address hS (by omega) (br_f (nI_nlt h (by omega)) (br_f (nI_nlt mle (by omega)) ?_)))⟩
    refine pk_eq i 0 (fun e => br_t ?_ (nm_r (nI_1 i) hn)) (fun _ => nm_r (nI_1 i) hn)
    rw [e, hS.2.1]
    rfl
theorem il_law32 (hL : L ≤ 260) (H : post 1) :
    ∀ (j i : Nat) (st : Nat → Nat) (a1 a2 a3 a4 a5 a6 a7 a8 a9 a10 : Nat → Int32), L ≤ i + j → i ≤ 300 → il_I st a1 a2 a3 a4 a5 a6 a7 a8 a9 a10 →
      ∃ n, wL_law_32 post L xs x3 kc ks n (nI i) a1 a2 a3 a4 a5 a6 a7 a8 a9 a10 a1 a2 a3 a4 a5 a6 a7 a8 a9 a10 := by
  have out : ∀ (i : Nat) (st : Nat → Nat) (a1 a2 a3 a4 a5 a6 a7 a8 a9 a10 : Nat → Int32), L ≤ i + 1 → i ≤ 300 → il_I st a1 a2 a3 a4 a5 a6 a7 a8 a9 a10 →
      ∃ n, wL_law_32 post L xs x3 kc ks n (nI i) a1 a2 a3 a4 a5 a6 a7 a8 a9 a10 a1 a2 a3 a4 a5 a6 a7 a8 a9 a10 := by
    intro i st a1 a2 a3 a4 a5 a6 a7 a8 a9 a10 hi h3 hI
    exact ⟨0 + 1, pk_le L (i + 1) (fun _ => il_w_size hI.1 (il_law92 hI H 6 0 0 rfl (Nat.zero_le _))) (fun z => absurd z (by omega)) (by rfl) (nI_1 i)⟩
  intro j
  induction j with
  | zero => exact fun i st a1 a2 a3 a4 a5 a6 a7 a8 a9 a10 hi h3 hI => out i st a1 a2 a3 a4 a5 a6 a7 a8 a9 a10 (by omega) h3 hI
  | succ j ih =>
    intro i st a1 a2 a3 a4 a5 a6 a7 a8 a9 a10 hi h3 hI
    by_cases c : L ≤ i + 1
    · exact out i st a1 a2 a3 a4 a5 a6 a7 a8 a9 a10 c h3 hI
    · obtain ⟨r, st', b1, b2, b3, b4, b5, b6, b7, b8, b9, b10, k, h⟩ := il_turn hI (xs (nI i).toNatClampNeg) (xs (nI i + 1).toNatClampNeg)
      obtain ⟨n, hn⟩ := ih (i + 2) st' b1 b2 b3 b4 b5 b6 b7 b8 b9 b10 (by omega) (by omega) k
      refine ⟨n + 1, pk_le L (i + 1) (fun z => absurd z (by omega)) (fun _ => ?_) (by rfl) (nI_1 i)⟩
      exact ⟨pk_in i L (by omega), pk_in (i + 1) L (by omega) (nI_1 i), h _ ⟨pk_in i L (by omega), pk_in (i + 1) L (by omega) (nI_1 i), h _ (nm_r (e' := nI (i + 2)) (nI_add i 2) hn)⟩⟩
end
theorem i_vc (xs : Nat → Int32) (L : Nat) (hL : L ≤ 260) : wpL_law (fun r => r = 1) L xs := by
  obtain ⟨st, b1, b2, b3, b4, b5, b6, b7, b8, b9, b10, k, h⟩ := il_init
  unfold wpL_law
  refine ⟨10, 337, by omega, by omega, h _ ⟨by omega, by omega, 10, 337, by omega, by omega, h _ ?_⟩⟩
  exact pk_le L 0 (fun _ => il_law32 (post := fun r => r = 1) hL rfl 260 1 st b1 b2 b3 b4 b5 b6 b7 b8 b9 b10 (by omega) (by omega) k) (fun z => ⟨pk_in 0 L z, nm_e (il_law32 (post := fun r => r = 1) hL rfl 260 1 st b1 b2 b3 b4 b5 b6 b7 b8 b9 b10 (by omega) (by omega) k)⟩)
end
