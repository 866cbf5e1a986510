section
/-! plain rows: bits of small masks, the picture of one instruction -/
section
abbrev gc_bit (x : Int32) (u : Nat) : Int32 := (x >>> (nI u &&& 31)) &&& 1
abbrev gc_one (v : Nat) : Int32 := (1 : Int32) <<< (nI v &&& 31)
/-- the first n bits of x, counted -/
def gc_bs (x : Int32) : Nat → Int32
  | 0 => 0
  | n + 1 => gc_bs x n + ((x >>> (nI n &&& 31)) &&& 1)
theorem gc_fill {f s : Nat → Int32} {i k : Nat} {x : Int32} (hk : k = i) (h : ∀ j, j < i → s j = f j) (hx : x = f i) : ∀ j, j < i + 1 → upd s k x j = f j := by
  intro j hj
  rw [hk]
  by_cases e : j = i
  · rw [e, pk_us, hx]
  · rw [pk_un e]
    exact h j (by omega)
theorem gc_all {I : Int32 → Prop} {s : Nat → Int32} {N k : Nat} {x : Int32} (h : ∀ j, j < N → I (s j)) (hx : I x) : ∀ j, j < N → I (upd s k x j) := by
  intro j hj
  by_cases e : j = k
  · rw [e, pk_us]
    exact hx
  · rw [pk_un e]
    exact h j hj
theorem gc_b8 : ∀ k, k < 32 → (nI k).toInt8.toInt32 = nI k := by decide +kernel
theorem gc_b16 : ∀ k, k < 8 → (nI k).toInt16.toInt32 = nI k := by decide +kernel
theorem gc_a7 : ∀ k, k < 8 → nI k &&& 7 = nI k := by decide +kernel
theorem gc_z0 : ∀ u, u < 8 → gc_bit 0 u = 0 := by decide +kernel
/-- what is left to colour before turn k -/
theorem gc_rlo : ∀ k, k < 8 → ∀ v, v < k → gc_bit (nI (256 - 2 ^ k)) v = 0 := by decide +kernel
theorem gc_rhi : ∀ k, k < 8 → ¬ gc_bit (nI (256 - 2 ^ k)) k = 0 := by decide +kernel
theorem gc_rne : ∀ k, k < 8 → nI (256 - 2 ^ k) &&& (gc_one k ^^^ (-1)) = nI (256 - 2 ^ (k + 1)) := by decide +kernel
theorem gc_one_self : ∀ a, a < 8 → ¬ gc_bit (gc_one a) a = 0 := by decide +kernel
theorem gc_one_other : ∀ a, a < 8 → ∀ v, v < 8 → ¬ gc_bit (gc_one a) v = 0 → v = a := by decide +kernel
/-- a set R of what is live at the start, and what holds of every row of rivals -/
def gc_cl (R : Int32) (I : Int32 → Prop) : Prop := I 0 ∧ (∀ v x, v < 8 → I x → ¬ gc_bit R v = 0 → I (x ||| (R &&& (gc_one v ^^^ (-1))))) ∧ (∀ v u x, v < 8 → u < 8 → I x → ¬ gc_bit R v = 0 → ¬ gc_bit (R &&& (gc_one v ^^^ (-1))) u = 0 → I (x ||| gc_one v)) ∧ (∀ k x, k < 8 → I x → ¬ 3 ≤ gc_bs (x &&& nI (256 - 2 ^ k)) 8)
theorem gc_d0 : ∀ k, k < 8 → ¬ 3 ≤ gc_bs (0 &&& nI (256 - 2 ^ k)) 8 := by decide +kernel
theorem gc_cl0 : gc_cl 0 (fun x => x = 0) :=
  ⟨rfl, fun v x hv _ g => absurd (gc_z0 v hv) g, fun v u x hv _ _ g => absurd (gc_z0 v hv) g, fun k x hk e => by rw [e]; exact gc_d0 k hk⟩
theorem gc_c1a : ∀ b, b < 8 → ∀ v, v < 8 → ¬ gc_bit (gc_one b) v = 0 → gc_one b &&& (gc_one v ^^^ (-1)) = 0 := by decide +kernel
theorem gc_cl1 {b : Nat} (hb : b < 8) : gc_cl (gc_one b) (fun x => x = 0) := by
  refine ⟨rfl, fun v x hv e g => ?_, fun v u x hv hu e g g2 => ?_, fun k x hk e => by rw [e]; exact gc_d0 k hk⟩
  · show x ||| _ = 0
    rw [gc_c1a b hb v hv g, e]
    rfl
  · rw [gc_c1a b hb v hv g] at g2
    exact absurd (gc_z0 u hu) g2
def gc_l (b c : Nat) : List Int32 := [0, gc_one b, gc_one c, gc_one b ||| gc_one c]
theorem gc_c2a : ∀ b, b < 8 → ∀ c, c < 8 → ∀ v, v < 8 → ∀ x ∈ gc_l b c, gc_bit (gc_one b ||| gc_one c) v = 0 ∨ (x ||| ((gc_one b ||| gc_one c) &&& (gc_one v ^^^ (-1)))) ∈ gc_l b c := by decide +kernel
theorem gc_c2b : ∀ b, b < 8 → ∀ c, c < 8 → ∀ v, v < 8 → ∀ x ∈ gc_l b c, gc_bit (gc_one b ||| gc_one c) v = 0 ∨ (x ||| gc_one v) ∈ gc_l b c := by decide +kernel
theorem gc_c2d : ∀ b, b < 8 → ∀ c, c < 8 → ∀ k, k < 8 → ∀ x ∈ gc_l b c, ¬ 3 ≤ gc_bs (x &&& nI (256 - 2 ^ k)) 8 := by decide +kernel
theorem gc_cl2 {b c : Nat} (hb : b < 8) (hc : c < 8) : gc_cl (gc_one b ||| gc_one c) (fun x => x ∈ gc_l b c) :=
  ⟨List.mem_cons_self .., fun v x hv e g => (gc_c2a b hb c hc v hv x e).resolve_left g, fun v u x hv _ e g _ => (gc_c2b b hb c hc v hv x e).resolve_left g, fun k x hk e => gc_c2d b hb c hc k hk x e⟩
/-- an instruction that the source may hold -/
def gc_ok (o : Nat) (A B C : Int32) : Prop := o ≤ 10 ∧ (o ≠ 10 → ∃ a, A = nI a ∧ a < 32 ∧ (o ≠ 7 → a < 8)) ∧ (1 ≤ o → o ≤ 5 → ∃ b, B = nI b ∧ b < 8) ∧ (2 ≤ o → o ≤ 5 → ∃ c, C = nI c ∧ c < 8) ∧ (o = 8 ∨ o = 9 → ∃ b, B = nI b ∧ b < 32) ∧ (o = 9 → ∃ c, C = nI c ∧ 1 ≤ c ∧ c ≤ 4)
/-- what it reads -/
def gc_R (o : Nat) (A B C : Int32) : Int32 := if o = 1 then (1 : Int32) <<< (B &&& 31) else if 2 ≤ o ∧ o ≤ 5 then ((1 : Int32) <<< (B &&& 31)) ||| ((1 : Int32) <<< (C &&& 31)) else if o = 6 ∨ o = 8 ∨ o = 9 then (1 : Int32) <<< (A &&& 31) else 0
theorem gc_R1 {o : Nat} {A B C : Int32} (h : o = 1) : gc_R o A B C = (1 : Int32) <<< (B &&& 31) := if_pos h
theorem gc_R2 {o : Nat} {A B C : Int32} (h : 2 ≤ o) (h5 : o ≤ 5) : gc_R o A B C = ((1 : Int32) <<< (B &&& 31)) ||| ((1 : Int32) <<< (C &&& 31)) := by
  unfold gc_R
  rw [if_neg (by omega), if_pos ⟨h, h5⟩]
theorem gc_R3 {o : Nat} {A B C : Int32} (h : o = 6 ∨ o = 8 ∨ o = 9) : gc_R o A B C = (1 : Int32) <<< (A &&& 31) := by
  unfold gc_R
  rw [if_neg (by omega), if_neg (by omega), if_pos h]
theorem gc_R4 {o : Nat} {A B C : Int32} (h : o = 0 ∨ o = 7 ∨ o = 10) : gc_R o A B C = 0 := by
  unfold gc_R
  rw [if_neg (by omega), if_neg (by omega), if_neg (by omega)]
theorem gc_clR {o : Nat} {A B C : Int32} (ok : gc_ok o A B C) : ∃ I, gc_cl (gc_R o A B C) I ∧ (o = 6 ∨ o = 8 ∨ o = 9 → ∀ x, I x → x = 0) := by
  obtain ⟨ho, kA, kb, kc, kB, kC⟩ := ok
  by_cases e1 : o = 1
  · obtain ⟨b, eb, lb⟩ := kb (by omega) (by omega)
    rw [gc_R1 e1, eb]
    exact ⟨_, gc_cl1 lb, fun _ x e => e⟩
  by_cases e2 : 2 ≤ o ∧ o ≤ 5
  · obtain ⟨b, eb, lb⟩ := kb (by omega) (by omega)
    obtain ⟨c, ec, lc⟩ := kc (by omega) (by omega)
    rw [gc_R2 e2.1 e2.2, eb, ec]
    exact ⟨_, gc_cl2 lb lc, fun z => absurd z (by omega)⟩
  by_cases e3 : o = 6 ∨ o = 8 ∨ o = 9
  · obtain ⟨a, ea, _, la⟩ := kA (by omega)
    rw [gc_R3 e3, ea]
    exact ⟨_, gc_cl1 (la (by omega)), fun _ x e => e⟩
  · rw [gc_R4 (by omega)]
    exact ⟨_, gc_cl0, fun _ x e => e⟩
end
end
section
/-! liveness: one instruction -/
section
variable {fl fc fe fp ff fo fx fn : Int32} {a1 a2 a3 a4 a5 a6 a7 a8 a9 a10 a11 a12 a13 a14 a15 a16 a17 : Nat → Int32}
theorem gc_la {post : Int32 → Prop} {p : Int32} (j : Nat) (hp : p = nI j) (hj : j < 2 ^ 31) (H0 : 1 ≤ j → post 0) (HM : j = 0 → post (a6 0)) : wpX_liveAt post (1, fc, fe, fp, ff, fo, fx, fn, a1, a2, a3, a4, a5, a6, a7, a8, a9, a10, a11, a12, a13, a14, a15, a16, a17) p := by
  subst hp
  refine pk_le 1 j (fun z => H0 z) (fun z => ⟨pk_in j 32 (by omega), ?_⟩)
  have e : j = 0 := by omega
  subst e
  exact HM rfl
theorem gc_or4 {s r M : Int32} (hs : s = 0 ∨ s = M) (hr : r = 0 ∨ r = M) : (s ||| r) = 0 ∨ (s ||| r) = M := by
  rcases hs with rfl | rfl <;> rcases hr with rfl | rfl <;> simp
theorem gc_after {post : Int32 → Prop} {o : Nat} {A B C M : Int32} (ok : gc_ok o A B C) (h1 : a1 0 = nI o) (h2 : a2 0 = A) (h3 : a3 0 = B) (h4 : a4 0 = C) (h6 : a6 0 = M) (H : ∀ r, (r = 0 ∨ (5 < o ∧ r = M)) → post r) : wpX_liveAfter post (1, fc, fe, fp, ff, fo, fx, fn, a1, a2, a3, a4, a5, a6, a7, a8, a9, a10, a11, a12, a13, a14, a15, a16, a17) 0 := by
  obtain ⟨ho, kA, kb, kc, kB, kC⟩ := ok
  refine ⟨pk_in 0 32 (by omega), nm_r h1 ?_⟩
  refine pk_eq o 10 (fun _ => H 0 (Or.inl rfl)) (fun n10 => ?_)
  refine pk_eq o 7 (fun e => ⟨pk_in 0 32 (by omega), ?_⟩) (fun n7 => ?_)
  · obtain ⟨a, ea, la, _⟩ := kA n10
    exact gc_la a (h2.trans ea) (by omega) (fun _ => H 0 (Or.inl rfl)) (fun _ => H _ (Or.inr ⟨by omega, h6⟩))
  · refine gc_la 1 rfl (by omega) (fun _ => ?_) (fun z => absurd z (by omega))
    refine pk_eq o 8 (fun e => ⟨pk_in 0 32 (by omega), ?_⟩) (fun n8 => ?_)
    · obtain ⟨b, eb, lb⟩ := kB (by omega)
      refine gc_la b (h3.trans eb) (by omega) (fun _ => ?_) (fun _ => ?_)
      · exact nm_e (pk_eq o 9 (fun z => absurd z (by omega)) (fun _ => H _ (Or.inl rfl)))
      · refine nm_r (show (0 : Int32) ||| a6 0 = M by rw [h6]; exact Int32.zero_or) ?_
        exact pk_eq o 9 (fun z => absurd z (by omega)) (fun _ => H _ (Or.inr ⟨by omega, rfl⟩))
    · refine pk_eq o 9 (fun e => ?_) (fun n9 => H _ (Or.inl rfl))
      obtain ⟨b, eb, lb⟩ := kB (by omega)
      obtain ⟨c, ec, lc, lc4⟩ := kC e
      refine pk_loop (fun n i s => wX_liveAfter_68 post 0 1 fc fe fp ff fo fx fn a1 a2 a3 a4 a5 a6 a7 a8 a9 a10 a11 a12 a13 a14 a15 a16 a17 n s (nI i)) (fun i s => s = 0 ∨ s = M) c 0 0 (by omega) (Or.inl rfl) ?_ ?_
      · intro n s h
        refine ⟨pk_in 0 32 (by omega), pk_le c c (fun _ => ?_) (fun z => absurd z (by omega)) (hx := h4.trans ec)⟩
        exact H s (h.imp id (fun g => ⟨by omega, g⟩))
      · intro n i s hi h hw
        refine ⟨pk_in 0 32 (by omega), pk_le c i (fun z => absurd z (by omega)) (fun _ => ⟨pk_in 0 32 (by omega), ?_⟩) (hx := h4.trans ec)⟩
        refine gc_la (b + i) (by rw [show a3 (0 : Int32).toNatClampNeg = nI b from h3.trans eb]; exact nI_add b i) (by omega) (fun _ => ?_) (fun _ => ?_)
        · exact nm_e (nm_r (nI_1 i) (hw _ (gc_or4 h (Or.inl rfl))))
        · exact nm_e (nm_r (nI_1 i) (hw _ (gc_or4 h (Or.inr h6))))
theorem gc_read {post : Int32 → Prop} {o : Nat} {A B C : Int32} (ho : o ≤ 10) (h1 : a1 0 = nI o) (h2 : a2 0 = A) (h3 : a3 0 = B) (h4 : a4 0 = C) (H : post (gc_R o A B C)) : wpX_readBy post (fl, fc, fe, fp, ff, fo, fx, fn, a1, a2, a3, a4, a5, a6, a7, a8, a9, a10, a11, a12, a13, a14, a15, a16, a17) 0 := by
  subst h2 h3 h4
  have h49 : ∀ (_ : o = 0 ∨ 5 < o), wX_readBy_49 post 0 (nI o) fl fc fe fp ff fo fx fn a1 a2 a3 a4 a5 a6 a7 a8 a9 a10 a11 a12 a13 a14 a15 a16 a17 := by
    intro ho5
    refine pk_eq o 6 (fun e => ⟨pk_in 0 32 (by omega), ?_⟩) (fun n6 => ?_)
    · rw [gc_R3 (by omega)] at H
      exact H
    refine pk_eq o 8 (fun e => ⟨pk_in 0 32 (by omega), ?_⟩) (fun n8 => ?_)
    · rw [gc_R3 (by omega)] at H
      exact H
    refine pk_eq o 9 (fun e => ⟨pk_in 0 32 (by omega), ?_⟩) (fun n9 => ?_)
    · rw [gc_R3 (by omega)] at H
      exact H
    rw [gc_R4 (by omega)] at H
    exact H
  refine ⟨pk_in 0 32 (by omega), nm_r h1 ?_⟩
  refine pk_eq o 1 (fun e => ⟨pk_in 0 32 (by omega), ?_⟩) (fun n1 => ?_)
  · rw [gc_R1 e] at H
    exact H
  refine pk_lt o 2 (fun z => h49 (by omega)) (fun z => ?_)
  refine pk_lt 5 o (fun z => h49 (by omega)) (fun z5 => ⟨pk_in 0 32 (by omega), pk_in 0 32 (by omega), ?_⟩)
  rw [gc_R2 z z5] at H
  exact H
theorem gc_written {post : Int32 → Prop} {o : Nat} (ho : o ≤ 10) (h1 : a1 0 = nI o) (H : ∀ w, (5 < o → w = 0) → post w) : wpX_writtenBy post (fl, fc, fe, fp, ff, fo, fx, fn, a1, a2, a3, a4, a5, a6, a7, a8, a9, a10, a11, a12, a13, a14, a15, a16, a17) 0 := by
  refine ⟨pk_in 0 32 (by omega), pk_lt 5 o (fun _ => H 0 (fun _ => rfl)) (fun z => ⟨pk_in 0 32 (by omega), H _ (fun z5 => absurd z5 (by omega))⟩) (hy := h1)⟩
theorem gc_live {o : Nat} {r w M R : Int32} (hr : r = 0 ∨ (5 < o ∧ r = M)) (hw : 5 < o → w = 0) (hM : M = 0 ∨ M = R) : R ||| (r &&& (w ^^^ (-1))) = R := by
  rcases hr with rfl | ⟨h5, rfl⟩
  · simp
  · rw [hw h5]
    rcases hM with rfl | rfl <;> simp
theorem gc_fl45 {post : St2 → Prop} {J : Int32 → Int32 → (Nat → Int32) → (Nat → Int32) → (Nat → Int32) → (Nat → Int32) → (Nat → Int32) → (Nat → Int32) → (Nat → Int32) → (Nat → Int32) → (Nat → Int32) → (Nat → Int32) → (Nat → Int32) → (Nat → Int32) → (Nat → Int32) → (Nat → Int32) → (Nat → Int32) → (Nat → Int32) → (Nat → Int32) → Prop} {x1 x2 : Int32} {o : Nat} {A B C M : Int32} (ok : gc_ok o A B C) (h1 : a1 0 = nI o) (h2 : a2 0 = A) (h3 : a3 0 = B) (h4 : a4 0 = C) (h6 : a6 0 = M) (hM : M = 0 ∨ M = gc_R o A B C)
    (H0 : gc_R o A B C = M → J x1 (x2 + 1) a1 a2 a3 a4 a5 (upd a6 0 (gc_R o A B C)) a7 a8 a9 a10 a11 a12 a13 a14 a15 a16 a17) (H1 : ¬ gc_R o A B C = M → J 1 (x2 + 1) a1 a2 a3 a4 a5 (upd a6 0 (gc_R o A B C)) a7 a8 a9 a10 a11 a12 a13 a14 a15 a16 a17) : ∃ n, wX_findLiveness_45 post J x2 1 fc fe fp ff fo fx fn n x1 0 a1 a2 a3 a4 a5 a6 a7 a8 a9 a10 a11 a12 a13 a14 a15 a16 a17 := by
  refine ⟨2, br_f (by decide) (gc_after ok h1 h2 h3 h4 h6 (fun r hr => ?_))⟩
  refine gc_read ok.1 h1 h2 h3 h4 ?_
  refine gc_written ok.1 h1 (fun w hw => ?_)
  refine nm_r (gc_live hr hw hM) ⟨pk_in 0 32 (by omega), ?_⟩
  refine br_c (fun g => ⟨pk_in 0 32 (by omega), ?_⟩) (fun g => ⟨pk_in 0 32 (by omega), ?_⟩)
  · exact nm_e (nm_e (br_t (by decide) (nm_e (H0 (g.trans h6)))))
  · exact nm_e (nm_e (br_t (by decide) (nm_e (H1 (fun e => g (e.trans h6.symm))))))
theorem gc_fl25 {post : St2 → Prop} {o : Nat} {A B C : Int32} (ok : gc_ok o A B C) (h1 : a1 0 = nI o) (h2 : a2 0 = A) (h3 : a3 0 = B) (h4 : a4 0 = C) (h6 : a6 0 = 0) (H : ∀ a : Nat → Int32, a 0 = gc_R o A B C → post (1, fc, fe, fp, ff, fo, fx, fn, a1, a2, a3, a4, a5, a, a7, a8, a9, a10, a11, a12, a13, a14, a15, a16, a17)) : ∃ n, wX_findLiveness_25 post 1 fc fe fp ff fo fx fn n 1 0 a1 a2 a3 a4 a5 a6 a7 a8 a9 a10 a11 a12 a13 a14 a15 a16 a17 := by
  refine ⟨3, br_f (by decide) (br_f (by decide) (nm_r (show (1 : Int32) - 1 = 0 by decide) ?_))⟩
  refine gc_fl45 ok h1 h2 h3 h4 h6 (Or.inl rfl) (fun e => ?_) (fun e => ?_)
  · exact br_f (by decide) (br_t rfl (H _ pk_us))
  · refine br_f (by decide) (br_f (by decide) (nm_r (show (1 : Int32) - 1 = 0 by decide) ?_))
    refine gc_fl45 ok h1 h2 h3 h4 (pk_us (f := a6)) (Or.inr rfl) (fun e => ?_) (fun e => absurd rfl e)
    exact br_f (by decide) (br_t rfl (H _ pk_us))
theorem gc_fl4 {post : St2 → Prop} {x1 : Int32} (H : ∀ a : Nat → Int32, a 0 = 0 → ∃ n, wX_findLiveness_25 post fl fc fe fp ff fo fx fn n x1 0 a1 a2 a3 a4 a5 a a7 a8 a9 a10 a11 a12 a13 a14 a15 a16 a17) : ∃ n, wX_findLiveness_4 post x1 fl fc fe fp ff fo fx fn n 0 a1 a2 a3 a4 a5 a6 a7 a8 a9 a10 a11 a12 a13 a14 a15 a16 a17 :=
  pk_loop (fun n i s => wX_findLiveness_4 post x1 fl fc fe fp ff fo fx fn n (nI i) a1 a2 a3 a4 a5 s a7 a8 a9 a10 a11 a12 a13 a14 a15 a16 a17) (fun i s => ∀ j, j < i → s j = 0) 32 0 a6 (by omega) (fun j hj => absurd hj (by omega))
    (fun n s h => pk_le 32 32 (fun _ => H s (h 0 (by omega))) (fun z => absurd z (by omega)))
    (fun n i s hi h hw => pk_le 32 i (fun z => absurd z (by omega)) (fun _ => ⟨pk_in i 32 hi, nm_e (nm_r (nI_1 i) (hw _ (gc_fill (f := fun _ => 0) (nI_clamp (by omega)) h rfl)))⟩))
/-- liveness of one instruction: what it reads -/
theorem gc_fl1 {post : St2 → Prop} {o : Nat} {A B C : Int32} (ok : gc_ok o A B C) (h1 : a1 0 = nI o) (h2 : a2 0 = A) (h3 : a3 0 = B) (h4 : a4 0 = C) (H : ∀ a : Nat → Int32, a 0 = gc_R o A B C → post (1, fc, fe, fp, ff, fo, fx, fn, a1, a2, a3, a4, a5, a, a7, a8, a9, a10, a11, a12, a13, a14, a15, a16, a17)) : wpX_findLiveness post (1, fc, fe, fp, ff, fo, fx, fn, a1, a2, a3, a4, a5, a6, a7, a8, a9, a10, a11, a12, a13, a14, a15, a16, a17) :=
  gc_fl4 (fun a ha => gc_fl25 ok h1 h2 h3 h4 ha H)
/-- liveness of no instruction -/
theorem gc_fl0 {post : St2 → Prop} (H : ∀ a, post (0, fc, fe, fp, ff, fo, fx, fn, a1, a2, a3, a4, a5, a, a7, a8, a9, a10, a11, a12, a13, a14, a15, a16, a17)) : wpX_findLiveness post (0, fc, fe, fp, ff, fo, fx, fn, a1, a2, a3, a4, a5, a6, a7, a8, a9, a10, a11, a12, a13, a14, a15, a16, a17) :=
  gc_fl4 (fun a _ => ⟨2, br_f (by decide) (br_f (by decide) (nm_e ⟨1, br_t (by decide) (nm_e (br_f (by decide) (br_t rfl (H a))))⟩))⟩)
end
end
section
/-! interference -/
section
variable {fl fc fe fp ff fo fx fn : Int32} {a1 a2 a3 a4 a5 a6 a7 a8 a9 a10 a11 a12 a13 a14 a15 a16 a17 : Nat → Int32}
theorem gc_mr42 {post : St2 → Prop} {J : Int32 → (Nat → Int32) → (Nat → Int32) → (Nat → Int32) → (Nat → Int32) → (Nat → Int32) → (Nat → Int32) → (Nat → Int32) → (Nat → Int32) → (Nat → Int32) → (Nat → Int32) → (Nat → Int32) → (Nat → Int32) → (Nat → Int32) → (Nat → Int32) → (Nat → Int32) → (Nat → Int32) → (Nat → Int32) → Prop} {I : Int32 → Prop} {x1 x2 x4 : Int32} {v : Nat} (hI : ∀ j, j < 8 → I (a7 j)) (hs : ∀ u x, u < 8 → I x → ¬ gc_bit x4 u = 0 → I (x ||| gc_one v)) (H : ∀ a : Nat → Int32, (∀ j, j < 8 → I (a j)) → J (nI (v + 1)) a1 a2 a3 a4 a5 a6 a a8 a9 a10 a11 a12 a13 a14 a15 a16 a17) : ∃ n, wX_makeRivals_42 post J x1 x2 (nI v) x4 fl fc fe fp ff fo fx fn n 0 a1 a2 a3 a4 a5 a6 a7 a8 a9 a10 a11 a12 a13 a14 a15 a16 a17 :=
  pk_loop (fun n i s => wX_makeRivals_42 post J x1 x2 (nI v) x4 fl fc fe fp ff fo fx fn n (nI i) a1 a2 a3 a4 a5 a6 s a8 a9 a10 a11 a12 a13 a14 a15 a16 a17) (fun _ s => ∀ j, j < 8 → I (s j)) 8 0 a7 (by omega) hI
    (fun n s h => pk_le 8 8 (fun _ => nm_r (nI_1 v) (H s h)) (fun z => absurd z (by omega)))
    (fun n i s hi h hw => pk_le 8 i (fun z => absurd z (by omega)) (fun _ => br_c (fun _ => nm_r (nI_1 i) (hw s h)) (fun g => ⟨pk_in i 8 hi, pk_in i 8 hi, nm_e (nm_r (nI_1 i) (hw _ (gc_all h (hs i _ hi (h _ (by rw [nI_clamp (by omega)]; exact hi)) g))))⟩)))
theorem gc_mr {post : St2 → Prop} {I : Int32 → Prop} {x1 x2 : Int32} (hI : ∀ j, j < 8 → I (a7 j)) (h1 : ∀ v x, v < 8 → I x → ¬ gc_bit x1 v = 0 → I (x ||| (x2 &&& (gc_one v ^^^ (-1))))) (h2 : ∀ v u x, v < 8 → u < 8 → I x → ¬ gc_bit x1 v = 0 → ¬ gc_bit (x2 &&& (gc_one v ^^^ (-1))) u = 0 → I (x ||| gc_one v)) (H : ∀ a : Nat → Int32, (∀ j, j < 8 → I (a j)) → post (fl, fc, fe, fp, ff, fo, fx, fn, a1, a2, a3, a4, a5, a6, a, a8, a9, a10, a11, a12, a13, a14, a15, a16, a17)) : wpX_makeRivals post (fl, fc, fe, fp, ff, fo, fx, fn, a1, a2, a3, a4, a5, a6, a7, a8, a9, a10, a11, a12, a13, a14, a15, a16, a17) x1 x2 :=
  pk_loop (fun n i s => wX_makeRivals_2 post x1 x2 fl fc fe fp ff fo fx fn n (nI i) a1 a2 a3 a4 a5 a6 s a8 a9 a10 a11 a12 a13 a14 a15 a16 a17) (fun _ s => ∀ j, j < 8 → I (s j)) 8 0 a7 (by omega) hI
    (fun n s h => pk_le 8 8 (fun _ => H s h) (fun z => absurd z (by omega)))
    (fun n i s hi h hw => pk_le 8 i (fun z => absurd z (by omega)) (fun _ => br_c (fun _ => nm_r (nI_1 i) (hw s h)) (fun g => nm_e ⟨pk_in i 8 hi, pk_in i 8 hi, nm_e (gc_mr42 (I := I) (gc_all h (h1 i _ hi (h _ (by rw [nI_clamp (by omega)]; exact hi)) g)) (fun u x hu hx g2 => h2 i u x hi hu hx g g2) (fun a ha => hw a ha))⟩)))
theorem gc_fr2 {post : St2 → Prop} (H : ∀ a : Nat → Int32, (∀ j, j < 8 → a j = 0) → wpX_liveAt (fun r => wpX_makeRivals (fun u => match u with | (fl, fc, fe, fp, ff, fo, fx, fn, a1, a2, a3, a4, a5, a6, a7, a8, a9, a10, a11, a12, a13, a14, a15, a16, a17) => ∃ fu : Nat, wX_findRivals_35 post fu 0 fl fc fe fp ff fo fx fn a1 a2 a3 a4 a5 a6 a7 a8 a9 a10 a11 a12 a13 a14 a15 a16 a17) (fl, fc, fe, fp, ff, fo, fx, fn, a1, a2, a3, a4, a5, a6, a, a8, a9, a10, a11, a12, a13, a14, a15, a16, a17) r r) (fl, fc, fe, fp, ff, fo, fx, fn, a1, a2, a3, a4, a5, a6, a, a8, a9, a10, a11, a12, a13, a14, a15, a16, a17) 0) : wpX_findRivals post (fl, fc, fe, fp, ff, fo, fx, fn, a1, a2, a3, a4, a5, a6, a7, a8, a9, a10, a11, a12, a13, a14, a15, a16, a17) :=
  pk_loop (fun n i s => wX_findRivals_2 post fl fc fe fp ff fo fx fn n (nI i) a1 a2 a3 a4 a5 a6 s a8 a9 a10 a11 a12 a13 a14 a15 a16 a17) (fun i s => ∀ j, j < i → s j = 0) 8 0 a7 (by omega) (fun j hj => absurd hj (by omega))
    (fun n s h => pk_le 8 8 (fun _ => H s h) (fun z => absurd z (by omega)))
    (fun n i s hi h hw => pk_le 8 i (fun z => absurd z (by omega)) (fun _ => ⟨pk_in i 8 hi, nm_e (nm_r (nI_1 i) (hw _ (gc_fill (f := fun _ => 0) (nI_clamp (by omega)) h rfl)))⟩))
theorem gc_noset {I : Int32 → Prop} {R : Int32} (v : Nat) {x : Int32} (hv : v < 8) (hx : I x) (g : ¬ gc_bit 0 v = 0) : I (x ||| R) := absurd (gc_z0 v hv) g
/-- rivals of one instruction -/
theorem gc_fr1 {post : St2 → Prop} {I : Int32 → Prop} {o : Nat} {A B C : Int32} (ok : gc_ok o A B C) (h1 : a1 0 = nI o) (h2 : a2 0 = A) (h3 : a3 0 = B) (h4 : a4 0 = C) (h6 : a6 0 = gc_R o A B C) (cl : gc_cl (gc_R o A B C) I) (H : ∀ a : Nat → Int32, (∀ j, j < 8 → I (a j)) → post (1, fc, fe, fp, ff, fo, fx, fn, a1, a2, a3, a4, a5, a6, a, a8, a9, a10, a11, a12, a13, a14, a15, a16, a17)) : wpX_findRivals post (1, fc, fe, fp, ff, fo, fx, fn, a1, a2, a3, a4, a5, a6, a7, a8, a9, a10, a11, a12, a13, a14, a15, a16, a17) := by
  obtain ⟨c0, c1, c2, _⟩ := cl
  refine gc_fr2 (fun a ha => gc_la 0 rfl (by omega) (fun z => absurd z (by omega)) (fun _ => ?_))
  rw [h6]
  refine gc_mr (I := I) (fun j hj => by rw [ha j hj]; exact c0) c1 c2 (fun a ha => ?_)
  refine ⟨2, br_f (by decide) (gc_written ok.1 h1 (fun w hw => gc_after ok h1 h2 h3 h4 h6 (fun r hr => ?_)))⟩
  refine gc_mr (I := I) ha ?_ ?_ (fun a ha => nm_e (br_t (by decide) (H a ha)))
  · intro v x hv hx g
    rcases hr with rfl | ⟨h5, _⟩
    · rw [Int32.zero_and, Int32.or_zero]
      exact hx
    · rw [hw h5] at g
      exact absurd (gc_z0 v hv) g
  · intro v u x hv hu hx g g2
    rcases hr with rfl | ⟨h5, _⟩
    · rw [Int32.zero_and] at g2
      exact absurd (gc_z0 u hu) g2
    · rw [hw h5] at g
      exact absurd (gc_z0 v hv) g
/-- rivals of no instruction -/
theorem gc_fr0 {post : St2 → Prop} (H : ∀ a : Nat → Int32, (∀ j, j < 8 → a j = 0) → post (0, fc, fe, fp, ff, fo, fx, fn, a1, a2, a3, a4, a5, a6, a, a8, a9, a10, a11, a12, a13, a14, a15, a16, a17)) : wpX_findRivals post (0, fc, fe, fp, ff, fo, fx, fn, a1, a2, a3, a4, a5, a6, a7, a8, a9, a10, a11, a12, a13, a14, a15, a16, a17) := by
  refine gc_fr2 (fun a ha => br_t (by decide) ?_)
  refine gc_mr (I := fun x => x = 0) ha (fun v x hv _ g => absurd (gc_z0 v hv) g) (fun v u x hv _ _ g => absurd (gc_z0 v hv) g) (fun a ha => ?_)
  exact ⟨1, br_t (by decide) (H a ha)⟩
end
end
section
/-! colours -/
section
variable {fl fc fe fp ff fo fx fn : Int32} {a1 a2 a3 a4 a5 a6 a7 a8 a9 a10 a11 a12 a13 a14 a15 a16 a17 : Nat → Int32}
theorem gc_bits {post : Int32 → Prop} {x : Int32} (H : post (gc_bs x 8)) : wpX_bitsIn post (fl, fc, fe, fp, ff, fo, fx, fn, a1, a2, a3, a4, a5, a6, a7, a8, a9, a10, a11, a12, a13, a14, a15, a16, a17) x :=
  pk_loop (fun n i s => wX_bitsIn_4 post x fl fc fe fp ff fo fx fn a1 a2 a3 a4 a5 a6 a7 a8 a9 a10 a11 a12 a13 a14 a15 a16 a17 n s (nI i)) (fun i s => s = gc_bs x i) 8 0 0 (by omega) rfl
    (fun n s h => pk_le 8 8 (fun _ => by rw [h]; exact H) (fun z => absurd z (by omega)))
    (fun n i s hi h hw => pk_le 8 i (fun z => absurd z (by omega)) (fun _ => nm_e (nm_r (nI_1 i) (hw _ (by rw [h]; rfl)))))
/-- the easiest one is the first of those left -/
theorem gc_easy {post : Int32 → Prop} {k : Nat} (hk : k < 8) (hd : ¬ 3 ≤ gc_bs (a7 k &&& nI (256 - 2 ^ k)) 8) (H : post (nI k)) : wpX_easiest post (fl, fc, fe, fp, ff, fo, fx, fn, a1, a2, a3, a4, a5, a6, a7, a8, a9, a10, a11, a12, a13, a14, a15, a16, a17) (nI (256 - 2 ^ k)) :=
  pk_loop (σ := Unit) (fun n i _ => wX_easiest_7 post (nI (256 - 2 ^ k)) fl fc fe fp ff fo fx fn a1 a2 a3 a4 a5 a6 a7 a8 a9 a10 a11 a12 a13 a14 a15 a16 a17 n (-1) (-1) (nI i)) (fun _ _ => True) k 0 () (by omega) trivial
    (fun n _ _ => pk_le 8 k (fun z => absurd z (by omega)) (fun _ => br_f (gc_rhi k hk) ⟨pk_in k 8 hk, by rw [nI_clamp (by omega)]; exact gc_bits (br_f hd H)⟩))
    (fun n i _ hi _ hw => pk_le 8 i (fun z => absurd z (by omega)) (fun _ => br_t (gc_rlo k hk i hi) (nm_r (nI_1 i) (hw () trivial))))
/-- a colour: none, or one of three -/
def gc_c4 (r : Int32) : Prop := r = -1 ∨ r = 0 ∨ r = 1 ∨ r = 2
theorem gc_free37 {post : Int32 → Prop} {x t : Int32} (ht : x = 0 → t = 0) (H : ∀ r, gc_c4 r → (x = 0 → r = 0) → post r) : ∃ n, wX_freeColour_37 post t fl fc fe fp ff fo fx fn a1 a2 a3 a4 a5 a6 a7 a8 a9 a10 a11 a12 a13 a14 a15 a16 a17 n 0 := by
  have hz : ∀ u, u < 8 → x = 0 → gc_bit t u = 0 := fun u hu e => by rw [ht e]; exact gc_z0 u hu
  refine ⟨4, br_f (by decide) (br_c (fun g => H 0 (Or.inr (Or.inl rfl)) (fun _ => rfl)) (fun g => nm_r (nI_1 0) ?_))⟩
  have h0 : ¬ x = 0 := fun e => g (hz 0 (by omega) e)
  refine br_f (by decide) (br_c (fun _ => H 1 (Or.inr (Or.inr (Or.inl rfl))) (fun e => absurd e h0)) (fun _ => nm_r (nI_1 1) ?_))
  refine br_f (by decide) (br_c (fun _ => H 2 (Or.inr (Or.inr (Or.inr rfl))) (fun e => absurd e h0)) (fun _ => nm_r (nI_1 2) ?_))
  exact br_t (by decide) (H (-1) (Or.inl rfl) (fun e => absurd e h0))
theorem gc_free {post : Int32 → Prop} {x : Int32} (H : ∀ r, gc_c4 r → (x = 0 → r = 0) → post r) : wpX_freeColour post (fl, fc, fe, fp, ff, fo, fx, fn, a1, a2, a3, a4, a5, a6, a7, a8, a9, a10, a11, a12, a13, a14, a15, a16, a17) x :=
  pk_loop (fun n i s => wX_freeColour_4 post x fl fc fe fp ff fo fx fn a1 a2 a3 a4 a5 a6 a7 a8 a9 a10 a11 a12 a13 a14 a15 a16 a17 n s (nI i)) (fun i s => x = 0 → s = 0) 8 0 0 (by omega) (fun _ => rfl)
    (fun n s h => pk_le 8 8 (fun _ => gc_free37 h H) (fun z => absurd z (by omega)))
    (fun n i s hi h hw => pk_le 8 i (fun z => absurd z (by omega)) (fun _ => br_c (fun _ => nm_r (nI_1 i) (hw s h)) (fun g => ⟨pk_in i 8 hi, nm_e (nm_r (nI_1 i) (hw _ (fun e => absurd (by rw [e]; exact gc_z0 i hi) g)))⟩)))
/-- what is known of a colour -/
def gc_C (Z : Prop) (r : Int32) : Prop := gc_c4 r ∧ (Z → r = 0)
theorem gc_c4b {r : Int32} (h : gc_c4 r) : r.toInt8.toInt32 = r := by
  rcases h with rfl | rfl | rfl | rfl <;> decide
theorem gc_put {Z : Prop} {s : Nat → Int32} {i k : Nat} {x : Int32} (hk : k = i) (h : ∀ j, i + 1 ≤ j → j < 8 → gc_C Z (s j)) (hx : gc_C Z x) : ∀ j, i ≤ j → j < 8 → gc_C Z (upd s k x j) := by
  intro j hj h8
  rw [hk]
  by_cases e : j = i
  · rw [e, pk_us]
    exact hx
  · rw [pk_un e]
    exact h j (by omega) h8
theorem gc_cv45 {post : St2 → Prop} {Z : Prop} (hZ : Z → ∀ j, j < 8 → a7 j = 0) (h9 : ∀ j, j < 8 → a9 j = nI j) (H : ∀ a : Nat → Int32, (∀ j, j < 8 → gc_C Z (a j)) → post (fl, fc, fe, fp, ff, fo, fx, fn, a1, a2, a3, a4, a5, a6, a7, a, a9, a10, a11, a12, a13, a14, a15, a16, a17)) : ∃ n, wX_colourVariables_45 post fl fc fe fp ff fo fx fn n 0 7 a1 a2 a3 a4 a5 a6 a7 a8 a9 a10 a11 a12 a13 a14 a15 a16 a17 := by
  refine ⟨9, pk_loopD (σ := Int32 × (Nat → Int32)) (fun n i s => wX_colourVariables_45 post fl fc fe fp ff fo fx fn n s.1 (nI i + (-1)) a1 a2 a3 a4 a5 a6 a7 (s.2) a9 a10 a11 a12 a13 a14 a15 a16 a17) (fun i s => i ≤ 8 ∧ ∀ j, i ≤ j → j < 8 → gc_C Z (s.2 j)) ?_ ?_ 8 (0, a8) ⟨by omega, fun j h1 h2 => absurd h1 (by omega)⟩⟩
  · intro n s h
    exact br_t (by decide) (H s.2 (fun j hj => h.2 j (by omega) hj))
  · intro n i s h hw
    have hi : i < 8 := by have := h.1; omega
    show wX_colourVariables_45 post fl fc fe fp ff fo fx fn (n + 1) s.1 (nI (i + 1) + (-1)) a1 a2 a3 a4 a5 a6 a7 (s.2) a9 a10 a11 a12 a13 a14 a15 a16 a17
    rw [pk_m1]
    have hc : (nI i).toNatClampNeg = i := nI_clamp (by omega)
    refine br_f (nI_pos (by omega)) ⟨pk_in i 8 hi, nm_r (show a9 (nI i).toNatClampNeg = nI i by rw [hc]; exact h9 i hi) ⟨pk_in i 8 hi, ?_⟩⟩
    refine gc_free (fun r hr h0 => ⟨pk_in i 8 hi, nm_r (show _ = upd s.2 i r by rw [hc, gc_c4b hr]) ⟨pk_in i 8 hi, ?_⟩⟩)
    have hC : gc_C Z r := ⟨hr, fun z => h0 (by rw [hc, hZ z i hi]; exact Int32.zero_and)⟩
    exact br_c (fun _ => nm_e (hw (s.1, upd s.2 i r) ⟨by omega, gc_put rfl h.2 hC⟩)) (fun _ => nm_e (nm_e (hw (s.1 ||| ((1 : Int32) <<< (nI i &&& 31)), upd s.2 i r) ⟨by omega, gc_put rfl h.2 hC⟩)))
theorem gc_cv {post : St2 → Prop} {Z : Prop} (hZ : Z → ∀ j, j < 8 → a7 j = 0) (hd : ∀ k, k < 8 → ¬ 3 ≤ gc_bs (a7 k &&& nI (256 - 2 ^ k)) 8) (H : ∀ b8 b9 : Nat → Int32, (∀ j, j < 8 → gc_C Z (b8 j)) → post (fl, fc, fe, fp, ff, fo, fx, fn, a1, a2, a3, a4, a5, a6, a7, b8, b9, a10, a11, a12, a13, a14, a15, a16, a17)) : wpX_colourVariables post (fl, fc, fe, fp, ff, fo, fx, fn, a1, a2, a3, a4, a5, a6, a7, a8, a9, a10, a11, a12, a13, a14, a15, a16, a17) :=
  pk_loop (fun n i s => wX_colourVariables_6 post fl fc fe fp ff fo fx fn n (nI (256 - 2 ^ i)) (nI i) a1 a2 a3 a4 a5 a6 a7 a8 s a10 a11 a12 a13 a14 a15 a16 a17) (fun i s => ∀ j, j < i → s j = nI j) 8 0 a9 (by omega) (fun j hj => absurd hj (by omega))
    (fun n s h => pk_le 8 8 (fun _ => gc_cv45 hZ h (fun a ha => H a s ha)) (fun z => absurd z (by omega)))
    (fun n i s hi h hw => pk_le 8 i (fun z => absurd z (by omega)) (fun _ => gc_easy hi (hd i hi) ⟨pk_in i 8 hi, nm_e (nm_r (gc_rne i hi) (nm_r (nI_1 i) (hw _ (gc_fill (f := fun j => nI j) (nI_clamp (by omega)) h (gc_b8 i (by omega))))))⟩))
end
end
section
/-! target code -/
section
variable {fl fc fe fp ff fo fx fn : Int32} {a1 a2 a3 a4 a5 a6 a7 a8 a9 a10 a11 a12 a13 a14 a15 a16 a17 : Nat → Int32}
theorem gc_write {post : St2 → Prop} {e : Nat} {p0 p1 p2 p3 : Int32} (he : e < 224) (H : post (fl, fc, nI (e + 1), fp, ff, fo, fx, fn, a1, a2, a3, a4, a5, a6, a7, a8, a9, upd a10 e p0.toInt8.toInt32, upd a11 e p1.toInt8.toInt32, upd a12 e p2, upd a13 e p3, a14, a15, a16, a17)) : wpX_write post (fl, fc, nI e, fp, ff, fo, fx, fn, a1, a2, a3, a4, a5, a6, a7, a8, a9, a10, a11, a12, a13, a14, a15, a16, a17) p0 p1 p2 p3 := by
  have hc : (nI e).toNatClampNeg = e := nI_clamp (by omega)
  refine ⟨pk_in e 224 he, nm_r (by rw [hc]) ⟨pk_in e 224 he, nm_r (by rw [hc]) ⟨pk_in e 224 he, nm_r (by rw [hc]) ⟨pk_in e 224 he, nm_r (by rw [hc]) (nm_r (nI_1 e) H)⟩⟩⟩⟩
/-- the code of one instruction, its entry, and the end's entry -/
def gc_code (o : Nat) (A B C : Int32) (b10 b11 b12 b13 b14 : Nat → Int32) : Prop := b10 0 = 11 ∧ b14 0 = 0 ∧ (o ≤ 5 → b10 1 = 10) ∧ (5 < o → b10 1 = nI o ∧ b10 2 = 10 ∧ b11 1 = 0 ∧ (o = 7 → b12 1 = A) ∧ (o = 8 ∨ o = 9 → b12 1 = B) ∧ (o = 9 → b13 1 = C) ∧ ∀ j, 1 ≤ j → j < 36 → b14 j = nI 2)
theorem gc_c76 {post : St2 → Prop} {l e : Nat} (hl : l ≤ 36) (he : e < 8) (H : ∀ a : Nat → Int32, (∀ j, l ≤ j → j < 36 → a j = nI e) → (∀ j, j < l → a j = a14 j) → post (fl, fc, nI (e + 1), fp, ff, fo, fx, fn, a1, a2, a3, a4, a5, a6, a7, a8, a9, upd a10 e 10, upd a11 e 0, upd a12 e 0, upd a13 e 0, a, a15, a16, a17)) : ∃ n, wX_compile_76 post fl fc (nI e) fp ff fo fx fn n (nI l) a1 a2 a3 a4 a5 a6 a7 a8 a9 a10 a11 a12 a13 a14 a15 a16 a17 :=
  pk_loop (fun n i s => wX_compile_76 post fl fc (nI e) fp ff fo fx fn n (nI i) a1 a2 a3 a4 a5 a6 a7 a8 a9 a10 a11 a12 a13 s a15 a16 a17) (fun i s => (∀ j, l ≤ j → j < i → s j = nI e) ∧ (∀ j, j < l → s j = a14 j) ∧ l ≤ i) 36 l a14 hl ⟨fun j h1 h2 => absurd h1 (by omega), fun _ _ => rfl, Nat.le_refl l⟩
    (fun n s h => pk_le 36 36 (fun _ => gc_write (by omega) (H s h.1 h.2.1)) (fun z => absurd z (by omega)))
    (fun n i s hi h hw => pk_le 36 i (fun z => absurd z (by omega)) (fun _ => ⟨pk_in i 36 hi, nm_r (show _ = upd s i (nI e) by rw [nI_clamp (by omega), gc_b16 e he]) (nm_r (nI_1 i) (hw _ ⟨by
        intro j h1 h2
        by_cases ej : j = i
        · rw [ej, pk_us]
        · rw [pk_un ej]
          exact h.1 j h1 (by omega), by
        intro j h1
        have h3 := h.2.2
        rw [pk_un (by omega)]
        exact h.2.1 j h1, by
        have h3 := h.2.2
        omega⟩))⟩))
theorem gc_fetch {post : Int32 → St2 → Prop} {a : Nat} {p1 : Int32} (ha : a < 8) (h8 : a8 a = 0) (H : post 0 (fl, fc, fe, fp, ff, fo, fx, fn, a1, a2, a3, a4, a5, a6, a7, a8, a9, a10, a11, a12, a13, a14, a15, a16, a17)) : wpX_fetched post (fl, fc, fe, fp, ff, fo, fx, fn, a1, a2, a3, a4, a5, a6, a7, a8, a9, a10, a11, a12, a13, a14, a15, a16, a17) (nI a) p1 := by
  have hc : a8 (nI a).toNatClampNeg = 0 := by
    rw [nI_clamp (by omega)]
    exact h8
  refine ⟨pk_in a 8 ha, br_f (by rw [hc]; decide) ⟨pk_in a 8 ha, ?_⟩⟩
  rw [hc]
  exact H
/-- the code of one instruction, written behind its tick -/
theorem gc_c1 {post : St2 → Prop} {o : Nat} {A B C : Int32} (ok : gc_ok o A B C) (h1 : a1 0 = nI o) (h2 : a2 0 = A) (h3 : a3 0 = B) (h4 : a4 0 = C) (h6 : a6 0 = gc_R o A B C) (h8 : o = 6 ∨ o = 8 ∨ o = 9 → ∀ j, j < 8 → a8 j = 0)
    (H0 : o ≤ 5 → post (1, fc, nI 1, fp, ff, fo, fx, fn, a1, a2, a3, a4, a5, a6, a7, a8, a9, a10, a11, a12, a13, a14, a15, a16, a17))
    (H1 : ∀ y z, 5 < o → (o = 7 → y = A) → (o = 8 ∨ o = 9 → y = B) → (o = 9 → z = C) → post (1, fc, nI 2, fp, ff, fo, fx, fn, a1, a2, a3, a4, a5, a6, a7, a8, a9, upd a10 1 (nI o), upd a11 1 0, upd a12 1 y, upd a13 1 z, a14, a15, a16, a17)) : wpX_compileOne post (1, fc, nI 1, fp, ff, fo, fx, fn, a1, a2, a3, a4, a5, a6, a7, a8, a9, a10, a11, a12, a13, a14, a15, a16, a17) 0 := by
  have kA := ok.2.1
  refine ⟨pk_in 0 32 (by omega), nm_r h1 ⟨pk_in 0 32 (by omega), nm_r h2 ?_⟩⟩
  refine pk_lt 5 o (fun h5 => ?_) (fun h5 => ?_) (hb := by have := ok.1; omega)
  · have o10 := ok.1
    refine pk_eq o 7 (fun e => gc_write (e := 1) (by omega) ?_) (fun n7 => ?_)
    · have h := H1 A 0 h5 (fun _ => rfl) (fun z => absurd z (by omega)) (fun z => absurd z (by omega))
      rw [e] at h
      exact h
    refine pk_eq o 10 (fun e => gc_write (e := 1) (by omega) ?_) (fun n10 => ?_)
    · have h := H1 0 0 h5 (fun z => absurd z (by omega)) (fun z => absurd z (by omega)) (fun z => absurd z (by omega))
      rw [e] at h
      exact h
    obtain ⟨a, ea, _, la⟩ := kA n10
    have la := la n7
    rw [ea]
    refine gc_fetch la (h8 (by omega) a la) ?_
    refine pk_eq o 6 (fun e => gc_write (e := 1) (by omega) ?_) (fun n6 => ?_)
    · have h := H1 0 0 h5 (fun z => absurd z (by omega)) (fun z => absurd z (by omega)) (fun z => absurd z (by omega))
      rw [e] at h
      exact h
    refine pk_eq o 8 (fun e => ⟨pk_in 0 32 (by omega), gc_write (e := 1) (by omega) ?_⟩) (fun n8 => ⟨pk_in 0 32 (by omega), pk_in 0 32 (by omega), gc_write (e := 1) (by omega) ?_⟩)
    · have h := H1 (a3 0) 0 h5 (fun z => absurd z (by omega)) (fun _ => h3) (fun z => absurd z (by omega))
      rw [e] at h
      exact h
    · have h := H1 (a3 0) (a4 0) h5 (fun z => absurd z (by omega)) (fun _ => h3) (fun _ => h4)
      have e : o = 9 := by omega
      rw [e] at h
      exact h
  · obtain ⟨a, ea, _, la⟩ := kA (by omega)
    have la := la (by omega)
    refine ⟨pk_in 0 32 (by omega), nm_e ⟨pk_in 0 32 (by omega), nm_r (h2.trans ea) ?_⟩⟩
    refine gc_after ok h1 h2 h3 h4 h6 (fun r hr => ?_)
    rcases hr with rfl | ⟨h, _⟩
    · exact br_t (gc_z0 a la) (H0 h5)
    · exact absurd h (by omega)
/-- what compile() leaves of one instruction -/
theorem gc_comp1 {post : St2 → Prop} {o : Nat} {A B C : Int32} (ok : gc_ok o A B C) (h1 : a1 0 = nI o) (h2 : a2 0 = A) (h3 : a3 0 = B) (h4 : a4 0 = C)
    (H : ∀ (E : Int32) (b6 b7 b8 b9 b10 b11 b12 b13 b14 : Nat → Int32), b6 0 = gc_R o A B C → (∀ j, j < 8 → gc_C (o = 6 ∨ o = 8 ∨ o = 9) (b8 j)) → gc_code o A B C b10 b11 b12 b13 b14 → post (1, 1, E, fp, ff, fo, fx, fn, a1, a2, a3, a4, a5, b6, b7, b8, b9, b10, b11, b12, b13, b14, a15, a16, a17)) : wpX_compile post (1, 0, fe, fp, ff, fo, fx, fn, a1, a2, a3, a4, a5, a6, a7, a8, a9, a10, a11, a12, a13, a14, a15, a16, a17) := by
  obtain ⟨I, cl, cz⟩ := gc_clR ok
  refine br_t rfl (gc_fl1 ok h1 h2 h3 h4 (fun b6 h6 => gc_fr1 ok h1 h2 h3 h4 h6 cl (fun b7 h7 => ?_)))
  refine gc_cv (Z := o = 6 ∨ o = 8 ∨ o = 9) (fun z j hj => cz z _ (h7 j hj)) (fun k hk => cl.2.2.2 k _ hk (h7 k hk)) (fun b8 b9 h8 => ?_)
  refine ⟨2, br_f (by decide) ⟨pk_in 0 36 (by omega), nm_e (gc_write (e := 0) (by omega) ?_)⟩⟩
  refine gc_c1 ok h1 h2 h3 h4 h6 (fun z j hj => (h8 j hj).2 z) (fun h5 => ?_) (fun y z h5 hA hB hC => ?_)
  · refine nm_e (br_t (by decide) (gc_c76 (l := 1) (e := 1) (by omega) (by omega) (fun a ha hb => H _ _ _ _ _ _ _ _ _ _ h6 h8 ?_)))
    refine ⟨rfl, (hb 0 (by omega)).trans rfl, fun _ => rfl, fun z => absurd z (by omega)⟩
  · refine nm_e (br_t (by decide) (gc_c76 (l := 1) (e := 2) (by omega) (by omega) (fun a ha hb => H _ _ _ _ _ _ _ _ _ _ h6 h8 ?_)))
    exact ⟨rfl, (hb 0 (by omega)).trans rfl, fun z => absurd z (by omega), fun _ => ⟨rfl, rfl, rfl, fun e => hA e, fun e => hB e, fun e => hC e, fun j hj hj2 => ha j hj hj2⟩⟩
/-- what compile() leaves of no instruction -/
theorem gc_comp0 {post : St2 → Prop} (H : ∀ (E : Int32) (b6 b7 b8 b9 b10 b11 b12 b13 b14 : Nat → Int32), (∀ j, j < 8 → gc_C True (b8 j)) → b10 0 = 10 → post (0, 1, E, fp, ff, fo, fx, fn, a1, a2, a3, a4, a5, b6, b7, b8, b9, b10, b11, b12, b13, b14, a15, a16, a17)) : wpX_compile post (0, 0, fe, fp, ff, fo, fx, fn, a1, a2, a3, a4, a5, a6, a7, a8, a9, a10, a11, a12, a13, a14, a15, a16, a17) := by
  refine br_t rfl (gc_fl0 (fun b6 => gc_fr0 (fun b7 h7 => ?_)))
  refine gc_cv (Z := True) (fun z j hj => h7 j hj) (fun k hk => by rw [h7 k hk]; exact gc_d0 k hk) (fun b8 b9 h8 => ?_)
  exact ⟨1, br_t (by decide) (gc_c76 (l := 0) (e := 0) (by omega) (by omega) (fun a ha hb => H _ _ _ _ _ _ _ _ _ _ h8 rfl))⟩
end
end
section
/-! the target machine, and a run -/
section
variable {fl fc fe fp ff fo fx fn : Int32} {a1 a2 a3 a4 a5 a6 a7 a8 a9 a10 a11 a12 a13 a14 a15 a16 a17 : Nat → Int32}
theorem gc_la2 {post : Int32 → Prop} {R : Int32} (hl : (fl = 0 ∧ R = 0) ∨ (fl = 1 ∧ a6 0 = R)) (H : post R) : wpX_liveAt post (fl, fc, fe, fp, ff, fo, fx, fn, a1, a2, a3, a4, a5, a6, a7, a8, a9, a10, a11, a12, a13, a14, a15, a16, a17) 0 := by
  rcases hl with ⟨rfl, rfl⟩ | ⟨rfl, h⟩
  · exact br_t (by decide) H
  · exact gc_la 0 rfl (by omega) (fun z => absurd z (by omega)) (fun _ => by rw [h]; exact H)
theorem gc_c4in {r : Int32} (h : gc_c4 r) (h0 : 0 ≤ r) : vp_in r 6 := by
  rcases h with rfl | rfl | rfl | rfl
  · exact absurd h0 (by decide)
  · exact pk_in 0 6 (by omega)
  · exact pk_in 1 6 (by omega)
  · exact pk_in 2 6 (by omega)
/-- the registers at the start -/
theorem gc_r52 {post : Int32 → St2 → Prop} {R : Int32} {Z : Prop} (hl : (fl = 0 ∧ R = 0) ∨ (fl = 1 ∧ a6 0 = R)) (h8 : ∀ j, j < 8 → gc_C Z (a8 j)) (H : ∀ b15 b16 : Nat → Int32, (Z → ∀ a, a < 8 → R = gc_one a → b15 0 = a5 a) → ∃ n, wX_run_119 post n 0 fl fc fe fp ff fo fx fn a1 a2 a3 a4 a5 a6 a7 a8 a9 a10 a11 a12 a13 a14 b15 b16 a17) : ∃ n, wX_run_52 post fl fc fe fp ff fo fx fn n 0 a1 a2 a3 a4 a5 a6 a7 a8 a9 a10 a11 a12 a13 a14 a15 a16 a17 := by
  refine pk_loop (σ := (Nat → Int32) × (Nat → Int32)) (fun n i s => wX_run_52 post fl fc fe fp ff fo fx fn n (nI i) a1 a2 a3 a4 a5 a6 a7 a8 a9 a10 a11 a12 a13 a14 (s.1) (s.2) a17) (fun i s => Z → ∀ a, a < 8 → R = gc_one a → a < i → s.1 0 = a5 a) 8 0 (a15, a16) (by omega) (fun _ a _ _ z => absurd z (by omega)) ?_ ?_
  · intro n s h
    exact pk_le 8 8 (fun _ => H s.1 s.2 (fun z a ha e => h z a ha e ha)) (fun z => absurd z (by omega))
  · intro n i s hi h hw
    have hc : (nI i).toNatClampNeg = i := nI_clamp (by omega)
    refine pk_le 8 i (fun z => absurd z (by omega)) (fun _ => ⟨pk_in i 8 hi, ?_⟩)
    show ((0 : Int32) ≤ a8 (nI i).toNatClampNeg → _) ∧ (¬ (0 : Int32) ≤ a8 (nI i).toNatClampNeg → _)
    refine br_c (fun g => ?_) (fun g => ⟨pk_in i 8 hi, pk_in i 8 hi, nm_e (nm_r (nI_1 i) (hw (s.1, upd s.2 (nI i).toNatClampNeg (a5 (nI i).toNatClampNeg)) (fun z a ha e hai => ?_)))⟩)
    · refine gc_la2 hl (br_c (fun gb => nm_r (nI_1 i) (hw s (fun z a ha e hai => ?_))) (fun gb => ⟨pk_in i 8 hi, pk_in i 8 hi, gc_c4in (h8 _ (by rw [hc]; exact hi)).1 g, nm_e (nm_r (nI_1 i) (hw (upd s.1 (a8 (nI i).toNatClampNeg).toNatClampNeg (a5 (nI i).toNatClampNeg), s.2) (fun z a ha e hai => ?_)))⟩))
      · by_cases ea : a = i
        · rw [e, ← ea] at gb
          exact absurd gb (gc_one_self a ha)
        · exact h z a ha e (by omega)
      · have e0 : a8 (nI i).toNatClampNeg = 0 := (h8 _ (by rw [hc]; exact hi)).2 z
        rw [e] at gb
        have ei := gc_one_other a ha i hi gb
        show upd s.1 (a8 (nI i).toNatClampNeg).toNatClampNeg (a5 (nI i).toNatClampNeg) 0 = a5 a
        rw [e0, hc, ei, sb_cl0, pk_us]
    · have e0 : a8 (nI i).toNatClampNeg = 0 := (h8 _ (by rw [hc]; exact hi)).2 z
      rw [e0] at g
      exact absurd (by decide) g
theorem gc_xtick {post : St2 → Prop} {p f x : Nat} (hp : p < 224) (hf : f < 250) (h : a10 p = 11) (H : post (fl, fc, fe, nI (p + 1), nI f, fo, nI (x + 1), fn, a1, a2, a3, a4, a5, a6, a7, a8, a9, a10, a11, a12, a13, a14, a15, a16, a17)) : wpX_execute post (fl, fc, fe, nI p, nI (f + 1), fo, nI x, fn, a1, a2, a3, a4, a5, a6, a7, a8, a9, a10, a11, a12, a13, a14, a15, a16, a17) := by
  have hc : (nI p).toNatClampNeg = p := nI_clamp (by omega)
  refine ⟨pk_in p 224 hp, nm_r (show a10 (nI p).toNatClampNeg = 11 by rw [hc]; exact h) ⟨pk_in p 224 hp, nm_e ⟨pk_in p 224 hp, nm_e (nm_r (nI_1 p) ?_)⟩⟩⟩
  exact br_t rfl (br_f (nI_ne0 (by omega) (by omega)) (nm_r (nI_pred f) (nm_r (nI_1 x) H)))
theorem gc_xtick0 {post : St2 → Prop} {p : Nat} (hp : p < 224) (h : a10 p = 11) (H : post (fl, fc, fe, nI (p + 1), 0, 2, fx, fn, a1, a2, a3, a4, a5, a6, a7, a8, a9, a10, a11, a12, a13, a14, a15, a16, a17)) : wpX_execute post (fl, fc, fe, nI p, 0, fo, fx, fn, a1, a2, a3, a4, a5, a6, a7, a8, a9, a10, a11, a12, a13, a14, a15, a16, a17) := by
  have hc : (nI p).toNatClampNeg = p := nI_clamp (by omega)
  refine ⟨pk_in p 224 hp, nm_r (show a10 (nI p).toNatClampNeg = 11 by rw [hc]; exact h) ⟨pk_in p 224 hp, nm_e ⟨pk_in p 224 hp, nm_e (nm_r (nI_1 p) ?_)⟩⟩⟩
  exact br_t rfl (br_t rfl H)
theorem gc_xhalt {post : St2 → Prop} {p : Nat} (hp : p < 224) (h : a10 p = 10) (H : post (fl, fc, fe, nI (p + 1), ff, 1, fx, fn, a1, a2, a3, a4, a5, a6, a7, a8, a9, a10, a11, a12, a13, a14, a15, a16, a17)) : wpX_execute post (fl, fc, fe, nI p, ff, fo, fx, fn, a1, a2, a3, a4, a5, a6, a7, a8, a9, a10, a11, a12, a13, a14, a15, a16, a17) := by
  have hc : (nI p).toNatClampNeg = p := nI_clamp (by omega)
  refine ⟨pk_in p 224 hp, nm_r (show a10 (nI p).toNatClampNeg = 10 by rw [hc]; exact h) ⟨pk_in p 224 hp, nm_e ⟨pk_in p 224 hp, nm_e (nm_r (nI_1 p) ?_)⟩⟩⟩
  exact br_f (by decide) (br_f (by decide) (br_f (by decide) (br_t (by decide) (br_f (by decide) (br_f (by decide) (br_f (by decide) (br_t rfl H)))))))
theorem gc_xprint {post : St2 → Prop} {w : Int32} (h : a10 1 = 6) (h11 : a11 1 = 0) (hw : a15 0 = w) (H : post (fl, fc, fe, nI 2, ff, fo, fx, 1, a1, a2, a3, a4, a5, a6, a7, a8, a9, a10, a11, a12, a13, a14, a15, a16, upd a17 0 w)) : wpX_execute post (fl, fc, fe, nI 1, ff, fo, fx, 0, a1, a2, a3, a4, a5, a6, a7, a8, a9, a10, a11, a12, a13, a14, a15, a16, a17) := by
  subst hw
  refine ⟨pk_in 1 224 (by omega), nm_r h ⟨pk_in 1 224 (by omega), nm_r h11 ⟨pk_in 1 224 (by omega), nm_e (nm_r (nI_1 1) ?_)⟩⟩⟩
  refine br_f (by decide) (br_f (by decide) (br_f (by decide) (br_t (by decide) (br_f (by decide) (br_f (by decide) (br_t rfl ⟨pk_in 0 6 (by omega), ?_⟩))))))
  exact br_f (by decide) ⟨pk_in 0 32 (by omega), nm_e (nm_e H)⟩
/-- the instruction goes back to itself -/
def gc_ag (o : Nat) (A B C w : Int32) : Prop := (o = 7 ∧ A = 0) ∨ (o = 8 ∧ B = 0 ∧ ¬ w = 0) ∨ (o = 9 ∧ ¬ w < 0 ∧ ¬ C ≤ w ∧ B + w = 0)
theorem gc_nz {n : Nat} (h : n < 2 ^ 31) (e : nI n = 0) : n = 0 := (nI_eq (b := 0) h (by omega)).mp e
theorem gc_xbr {post : St2 → Prop} {o : Nat} {A B C : Int32} (ok : gc_ok o A B C) (hcd : gc_code o A B C a10 a11 a12 a13 a14) (ho : o = 7 ∨ o = 8 ∨ o = 9) (H0 : gc_ag o A B C (a15 0) → post (fl, fc, fe, nI 0, ff, fo, fx, fn, a1, a2, a3, a4, a5, a6, a7, a8, a9, a10, a11, a12, a13, a14, a15, a16, a17)) (H2 : ¬ gc_ag o A B C (a15 0) → post (fl, fc, fe, nI 2, ff, fo, fx, fn, a1, a2, a3, a4, a5, a6, a7, a8, a9, a10, a11, a12, a13, a14, a15, a16, a17)) : wpX_execute post (fl, fc, fe, nI 1, ff, fo, fx, fn, a1, a2, a3, a4, a5, a6, a7, a8, a9, a10, a11, a12, a13, a14, a15, a16, a17) := by
  obtain ⟨c10, c14, _, cc⟩ := hcd
  obtain ⟨d10, _, d11, dA, dB, dC, d14⟩ := cc (by omega)
  refine ⟨pk_in 1 224 (by omega), nm_r d10 ⟨pk_in 1 224 (by omega), nm_r d11 ⟨pk_in 1 224 (by omega), nm_e (nm_r (nI_1 1) ?_)⟩⟩⟩
  refine pk_eq o 11 (fun z => absurd z (by omega)) (fun _ => pk_eq o 0 (fun z => absurd z (by omega)) (fun _ => pk_eq o 1 (fun z => absurd z (by omega)) (fun _ => pk_lt 5 o (fun _ => pk_eq o 12 (fun z => absurd z (by omega)) (fun _ => pk_eq o 13 (fun z => absurd z (by omega)) (fun _ => pk_eq o 6 (fun z => absurd z (by omega)) (fun _ => pk_eq o 10 (fun z => absurd z (by omega)) (fun _ => ?_))))) (fun z => absurd z (by omega)))))
  refine ⟨pk_in 0 6 (by omega), pk_in 1 224 (by omega), ?_⟩
  have go : ∀ j, j < 36 → (j = 0 ↔ gc_ag o A B C (a15 0)) → post (fl, fc, fe, a14 j, ff, fo, fx, fn, a1, a2, a3, a4, a5, a6, a7, a8, a9, a10, a11, a12, a13, a14, a15, a16, a17) := by
    intro j hj hjj
    by_cases e : j = 0
    · rw [e, c14]
      exact H0 (hjj.mp e)
    · rw [d14 j (by omega) hj]
      exact H2 (fun g => e (hjj.mpr g))
  refine pk_eq o 7 (fun e7 => ?_) (fun n7 => ?_)
  · obtain ⟨a, ea, la, _⟩ := ok.2.1 (by omega)
    have ha : a12 (nI 1).toNatClampNeg = nI a := (dA e7).trans ea
    have hc : (nI a).toNatClampNeg = a := nI_clamp (by omega)
    refine ⟨pk_in a 36 (by omega) (hx := ha), nm_r (show a14 (a12 (nI 1).toNatClampNeg).toNatClampNeg = a14 a by rw [ha, hc]) ?_⟩
    refine pk_eq o 8 (fun z => absurd z (by omega)) (fun _ => pk_eq o 9 (fun z => absurd z (by omega)) (fun _ => go a (by omega) ⟨fun e => Or.inl ⟨e7, by rw [ea, e]; rfl⟩, fun g => ?_⟩))
    rcases g with ⟨_, g⟩ | ⟨z, _⟩ | ⟨z, _⟩
    · rw [ea] at g
      exact gc_nz (by omega) g
    · omega
    · omega
  obtain ⟨b, eb, lb⟩ := ok.2.2.2.2.1 (by omega)
  have hb : a12 (nI 1).toNatClampNeg = nI b := (dB (by omega)).trans eb
  have hcb : (nI b).toNatClampNeg = b := nI_clamp (by omega)
  refine pk_eq o 8 (fun e8 => br_c (fun g0 => ?_) (fun g0 => ⟨pk_in b 36 (by omega) (hx := hb), nm_r (show a14 (a12 (nI 1).toNatClampNeg).toNatClampNeg = a14 b by rw [hb, hcb]) ?_⟩)) (fun n8 => ?_)
  · refine pk_eq o 9 (fun z => absurd z (by omega)) (fun _ => H2 (fun g => ?_))
    rcases g with ⟨z, _⟩ | ⟨_, _, g⟩ | ⟨z, _⟩
    · omega
    · exact g g0
    · omega
  · refine pk_eq o 9 (fun z => absurd z (by omega)) (fun _ => go b (by omega) ⟨fun e => Or.inr (Or.inl ⟨e8, by rw [eb, e]; rfl, g0⟩), fun g => ?_⟩)
    rcases g with ⟨z, _⟩ | ⟨_, g, _⟩ | ⟨z, _⟩
    · omega
    · rw [eb] at g
      exact gc_nz (by omega) g
    · omega
  have e9 : o = 9 := by omega
  obtain ⟨c, ec, lc, lc4⟩ := ok.2.2.2.2.2 e9
  have hC : a13 (nI 1).toNatClampNeg = C := dC e9
  refine pk_eq o 9 (fun _ => br_c (fun g0 => H2 (fun g => ?_)) (fun g0 => ?_)) (fun z => absurd e9 z)
  · rcases g with ⟨z, _⟩ | ⟨z, _⟩ | ⟨_, g, _⟩
    · omega
    · omega
    · exact g g0
  show (a13 (nI 1).toNatClampNeg ≤ a15 0 → _) ∧ (¬ a13 (nI 1).toNatClampNeg ≤ a15 0 → _)
  rw [hC]
  refine br_c (fun g1 => H2 (fun g => ?_)) (fun g1 => ?_)
  · rcases g with ⟨z, _⟩ | ⟨z, _⟩ | ⟨_, _, g, _⟩
    · omega
    · omega
    · exact g g1
  obtain ⟨q, lq, eq⟩ := nI_of g0
  have eq' : a15 0 = nI q := eq
  have hq : q < c := by
    rcases Nat.lt_or_ge q c with z | z
    · exact z
    · exact absurd (by rw [ec, eq']; exact nI_le z lq) g1
  have hs : a12 (nI 1).toNatClampNeg + a15 0 = nI (b + q) := by
    rw [hb, eq']
    exact nI_add b q
  have hcs : (nI (b + q)).toNatClampNeg = b + q := nI_clamp (by omega)
  refine ⟨pk_in (b + q) 36 (by omega) (hx := hs), nm_r (show a14 (a12 (nI 1).toNatClampNeg + a15 0).toNatClampNeg = a14 (b + q) by rw [hs, hcs]) ?_⟩
  refine go (b + q) (by omega) ⟨fun e => Or.inr (Or.inr ⟨e9, g0, g1, ?_⟩), fun g => ?_⟩
  · rw [eb, eq', nI_add, e]
    rfl
  · rcases g with ⟨z, _⟩ | ⟨z, _⟩ | ⟨_, _, _, g⟩
    · omega
    · omega
    · rw [eb, eq', nI_add] at g
      exact gc_nz (by omega) g
theorem gc_go2 {post : Int32 → St2 → Prop} (h0 : a10 0 = 11) (h1 : a10 1 = 10) (H : post 1 (fl, fc, fe, nI 2, nI 2, 1, nI 1, 0, a1, a2, a3, a4, a5, a6, a7, a8, a9, a10, a11, a12, a13, a14, a15, a16, a17)) : ∃ n, wX_run_119 post n 0 fl fc fe 0 3 0 0 0 a1 a2 a3 a4 a5 a6 a7 a8 a9 a10 a11 a12 a13 a14 a15 a16 a17 :=
  ⟨3, br_f (by decide) (br_t rfl (gc_xtick (p := 0) (f := 2) (x := 0) (by omega) (by omega) h0 (nm_e (br_f (by decide) (br_t rfl (gc_xhalt (p := 1) (by omega) h1 (nm_e (br_f (by decide) (br_f (by decide) H)))))))))⟩
theorem gc_go6 {post : Int32 → St2 → Prop} {w : Int32} (h0 : a10 0 = 11) (h1 : a10 1 = 6) (h2 : a10 2 = 10) (h11 : a11 1 = 0) (hw : a15 0 = w) (H : post 1 (fl, fc, fe, nI 3, nI 2, 1, nI 1, 1, a1, a2, a3, a4, a5, a6, a7, a8, a9, a10, a11, a12, a13, a14, a15, a16, upd a17 0 w)) : ∃ n, wX_run_119 post n 0 fl fc fe 0 3 0 0 0 a1 a2 a3 a4 a5 a6 a7 a8 a9 a10 a11 a12 a13 a14 a15 a16 a17 :=
  ⟨4, br_f (by decide) (br_t rfl (gc_xtick (p := 0) (f := 2) (x := 0) (by omega) (by omega) h0 (nm_e (br_f (by decide) (br_t rfl (gc_xprint h1 h11 hw (nm_e (br_f (by decide) (br_t rfl (gc_xhalt (p := 2) (by omega) h2 (nm_e (br_f (by decide) (br_f (by decide) H)))))))))))))⟩
theorem gc_go789 {post : Int32 → St2 → Prop} {o : Nat} {A B C : Int32} (ok : gc_ok o A B C) (hcd : gc_code o A B C a10 a11 a12 a13 a14) (ho : o = 7 ∨ o = 8 ∨ o = 9) (H0 : gc_ag o A B C (a15 0) → post 2 (fl, fc, fe, nI 1, 0, 2, nI 3, 0, a1, a2, a3, a4, a5, a6, a7, a8, a9, a10, a11, a12, a13, a14, a15, a16, a17)) (H2 : ¬ gc_ag o A B C (a15 0) → post 1 (fl, fc, fe, nI 3, nI 2, 1, nI 1, 0, a1, a2, a3, a4, a5, a6, a7, a8, a9, a10, a11, a12, a13, a14, a15, a16, a17)) : ∃ n, wX_run_119 post n 0 fl fc fe 0 3 0 0 0 a1 a2 a3 a4 a5 a6 a7 a8 a9 a10 a11 a12 a13 a14 a15 a16 a17 := by
  have h0 := hcd.1
  have h2 := (hcd.2.2.2 (by omega)).2.1
  refine ⟨8, br_f (by decide) (br_t rfl (gc_xtick (p := 0) (f := 2) (x := 0) (by omega) (by omega) h0 (nm_e (br_f (by decide) (br_t rfl (gc_xbr ok hcd ho (fun g => ?_) (fun g => ?_)))))))⟩
  · refine nm_e (br_f (by decide) (br_t rfl (gc_xtick (p := 0) (f := 1) (x := 1) (by omega) (by omega) h0 (nm_e (br_f (by decide) (br_t rfl (gc_xbr ok hcd ho (fun _ => ?_) (fun z => absurd g z))))))))
    refine nm_e (br_f (by decide) (br_t rfl (gc_xtick (p := 0) (f := 0) (x := 2) (by omega) (by omega) h0 (nm_e (br_f (by decide) (br_t rfl (gc_xbr ok hcd ho (fun _ => ?_) (fun z => absurd g z))))))))
    exact nm_e (br_f (by decide) (br_t rfl (gc_xtick0 (p := 0) (by omega) h0 (nm_e (br_f (by decide) (br_f (by decide) (H0 g)))))))
  · exact nm_e (br_f (by decide) (br_t rfl (gc_xhalt (p := 2) (by omega) h2 (nm_e (br_f (by decide) (br_f (by decide) (H2 g)))))))
/-- run(3) over one instruction -/
theorem gc_run1 {post : Int32 → St2 → Prop} {o : Nat} {A B C w : Int32} (ok : gc_ok o A B C) (h1 : a1 0 = nI o) (h2 : a2 0 = A) (h3 : a3 0 = B) (h4 : a4 0 = C) (hw : ∀ a, o ≠ 10 → A = nI a → a < 8 → a5 a = w)
    (H : ∀ (r E p f s x n : Int32) (b6 b7 b8 b9 b10 b11 b12 b13 b14 b15 b16 b17 : Nat → Int32), b6 0 = gc_R o A B C → (gc_ag o A B C w → r = 2 ∧ x = 3) → (¬ gc_ag o A B C w → r = 1 ∧ x = 1) → (o = 6 → n = 1 ∧ b17 0 = w) → (o ≠ 6 → n = 0) → post r (1, 1, E, p, f, s, x, n, a1, a2, a3, a4, a5, b6, b7, b8, b9, b10, b11, b12, b13, b14, b15, b16, b17)) : wpX_run post (1, 0, fe, fp, ff, fo, fx, fn, a1, a2, a3, a4, a5, a6, a7, a8, a9, a10, a11, a12, a13, a14, a15, a16, a17) 3 := by
  refine gc_comp1 ok h1 h2 h3 h4 (fun E b6 b7 b8 b9 b10 b11 b12 b13 b14 h6 h8 hcd => br_t (by decide) (br_t (by decide) ?_))
  refine gc_r52 (Z := o = 6 ∨ o = 8 ∨ o = 9) (Or.inr ⟨rfl, h6⟩) h8 (fun b15 b16 hr => ?_)
  have hv : o = 6 ∨ o = 8 ∨ o = 9 → b15 0 = w := by
    intro z
    obtain ⟨a, ea, _, la⟩ := ok.2.1 (by omega)
    have la := la (by omega)
    rw [hr z a la (by rw [gc_R3 z, ea])]
    exact hw a (by omega) ea la
  have o10 := ok.1
  by_cases c5 : o ≤ 5
  · have na : ¬ gc_ag o A B C w := by
      rintro (⟨z, _⟩ | ⟨z, _⟩ | ⟨z, _⟩) <;> omega
    exact gc_go2 hcd.1 (hcd.2.2.1 c5) (H _ _ _ _ _ _ _ _ _ _ _ _ _ _ _ _ _ _ _ h6 (fun g => absurd g na) (fun _ => ⟨rfl, rfl⟩) (fun z => absurd z (by omega)) (fun _ => rfl))
  by_cases c10 : o = 10
  · have na : ¬ gc_ag o A B C w := by
      rintro (⟨z, _⟩ | ⟨z, _⟩ | ⟨z, _⟩) <;> omega
    have hh := (hcd.2.2.2 (by omega)).1
    rw [c10] at hh
    exact gc_go2 hcd.1 hh (H _ _ _ _ _ _ _ _ _ _ _ _ _ _ _ _ _ _ _ h6 (fun g => absurd g na) (fun _ => ⟨rfl, rfl⟩) (fun z => absurd z (by omega)) (fun _ => rfl))
  by_cases c6 : o = 6
  · have na : ¬ gc_ag o A B C w := by
      rintro (⟨z, _⟩ | ⟨z, _⟩ | ⟨z, _⟩) <;> omega
    obtain ⟨hh, hh2, hh11, _⟩ := hcd.2.2.2 (by omega)
    rw [c6] at hh
    exact gc_go6 hcd.1 hh hh2 hh11 (hv (by omega)) (H _ _ _ _ _ _ _ _ _ _ _ _ _ _ _ _ _ _ _ h6 (fun g => absurd g na) (fun _ => ⟨rfl, rfl⟩) (fun _ => ⟨rfl, pk_us⟩) (fun z => absurd c6 z))
  have hag : gc_ag o A B C (b15 0) ↔ gc_ag o A B C w := by
    by_cases c7 : o = 7
    · constructor
      · rintro (z | ⟨z, _⟩ | ⟨z, _⟩)
        · exact Or.inl z
        · omega
        · omega
      · rintro (z | ⟨z, _⟩ | ⟨z, _⟩)
        · exact Or.inl z
        · omega
        · omega
    · rw [hv (by omega)]
  exact gc_go789 ok hcd (by omega)
    (fun g => H _ _ _ _ _ _ _ _ _ _ _ _ _ _ _ _ _ _ _ h6 (fun _ => ⟨rfl, rfl⟩) (fun z => absurd (hag.mp g) z) (fun z => absurd z c6) (fun _ => rfl))
    (fun g => H _ _ _ _ _ _ _ _ _ _ _ _ _ _ _ _ _ _ _ h6 (fun z => absurd (hag.mpr z) g) (fun _ => ⟨rfl, rfl⟩) (fun z => absurd z c6) (fun _ => rfl))
/-- run(3) over no instruction -/
theorem gc_run0 {post : Int32 → St2 → Prop} (H : ∀ (E p f : Int32) (b6 b7 b8 b9 b10 b11 b12 b13 b14 b15 b16 : Nat → Int32), post 1 (0, 1, E, p, f, 1, 0, 0, a1, a2, a3, a4, a5, b6, b7, b8, b9, b10, b11, b12, b13, b14, b15, b16, a17)) : wpX_run post (0, 0, fe, fp, ff, fo, fx, fn, a1, a2, a3, a4, a5, a6, a7, a8, a9, a10, a11, a12, a13, a14, a15, a16, a17) 3 := by
  refine gc_comp0 (fun E b6 b7 b8 b9 b10 b11 b12 b13 b14 h8 h10 => br_t (by decide) (br_t (by decide) ?_))
  refine gc_r52 (Z := True) (R := 0) (Or.inl ⟨rfl, rfl⟩) h8 (fun b15 b16 _ => ?_)
  exact ⟨2, br_f (by decide) (br_t rfl (gc_xhalt (p := 0) (by omega) h10 (nm_e (br_f (by decide) (br_f (by decide) (H _ _ _ _ _ _ _ _ _ _ _ _ _ _))))))⟩
end
end
section
/-! the law's calls: start, emit, and what is asked after the run -/
section
variable {fl fc fe fp ff fo fx fn : Int32} {a1 a2 a3 a4 a5 a6 a7 a8 a9 a10 a11 a12 a13 a14 a15 a16 a17 : Nat → Int32}
def gc_in (x q : Int32) : Prop := ¬ x < 0 ∧ ¬ q < x
/-- the instruction fits -/
def gc_F (o : Nat) (a b c : Int32) : Prop := (o ≠ 10 → o = 7 → gc_in a 31) ∧ (o ≠ 10 → o ≠ 7 → gc_in a 7) ∧ (1 ≤ o → o ≤ 5 → gc_in b 7) ∧ (2 ≤ o → o ≤ 5 → gc_in c 7) ∧ (o = 8 ∨ o = 9 → gc_in b 31) ∧ (o = 9 → ¬ c < 1 ∧ ¬ 4 < c)
theorem gc_isV {post : Int32 → Prop} {p : Int32} (H1 : gc_in p 7 → post 1) (H0 : ¬ gc_in p 7 → post 0) : wpX_isVariable post (fl, fc, fe, fp, ff, fo, fx, fn, a1, a2, a3, a4, a5, a6, a7, a8, a9, a10, a11, a12, a13, a14, a15, a16, a17) p :=
  br_c (fun g => H0 (fun h => h.1 g)) (fun g => br_c (fun g2 => H0 (fun h => h.2 g2)) (fun g2 => H1 ⟨g, g2⟩))
theorem gc_isT {post : Int32 → Prop} {p : Int32} (H1 : gc_in p 31 → post 1) (H0 : ¬ gc_in p 31 → post 0) : wpX_isTarget post (fl, fc, fe, fp, ff, fo, fx, fn, a1, a2, a3, a4, a5, a6, a7, a8, a9, a10, a11, a12, a13, a14, a15, a16, a17) p :=
  br_c (fun g => H0 (fun h => h.1 g)) (fun g => br_c (fun g2 => H0 (fun h => h.2 g2)) (fun g2 => H1 ⟨g, g2⟩))
theorem gc_inL {post : Int32 → Prop} {u : St0} {p q : Int32} (H1 : gc_in p q → post 1) (H0 : ¬ gc_in p q → post 0) : wpL_in post u p q :=
  br_c (fun g => H0 (fun h => h.1 g)) (fun g => br_c (fun g2 => H0 (fun h => h.2 g2)) (fun g2 => H1 ⟨g, g2⟩))
theorem gc_inE {x q : Int32} {n : Nat} (hq : q.toInt = n) (h : gc_in x q) : ∃ j, j ≤ n ∧ x = nI j := nI_of2 hq h.1 (Int32.not_lt.mp h.2)
theorem gc_fits {post : Int32 → Prop} {o : Nat} {a b c : Int32} (ho : o ≤ 10) (H1 : gc_F o a b c → post 1) (H0 : ¬ gc_F o a b c → post 0) : wpX_fits post (fl, fc, fe, fp, ff, fo, fx, fn, a1, a2, a3, a4, a5, a6, a7, a8, a9, a10, a11, a12, a13, a14, a15, a16, a17) (nI o) a b c := by
  refine pk_eq o 10 (fun e => ?_) (fun n10 => ?_)
  · exact H1 ⟨fun z => absurd e z, fun z => absurd e z, fun _ z => absurd z (by omega), fun _ z => absurd z (by omega), fun z => absurd z (by omega), fun z => absurd z (by omega)⟩
  refine pk_eq o 7 (fun e7 => gc_isT (fun g => ⟨rfl, ?_⟩) (fun g => ⟨rfl, ?_⟩)) (fun n7 => gc_isV (fun ga => br_f (by decide) ?_) (fun ga => br_t rfl (H0 (fun h => ga (h.2.1 n10 n7)))))
  · exact H1 ⟨fun _ _ => g, fun _ z => absurd e7 z, fun _ z => absurd z (by omega), fun _ z => absurd z (by omega), fun z => absurd z (by omega), fun z => absurd z (by omega)⟩
  · exact H0 (fun h => g (h.1 n10 e7))
  have f87 : (1 ≤ o → o ≤ 5 → gc_in b 7) → (2 ≤ o → o ≤ 5 → gc_in c 7) → (o = 8 ∨ o = 9 → gc_in b 31) → wX_fits_87 post (nI o) c fl fc fe fp ff fo fx fn a1 a2 a3 a4 a5 a6 a7 a8 a9 a10 a11 a12 a13 a14 a15 a16 a17 := fun k1 k2 k3 =>
    pk_eq o 9 (fun e9 => br_c (fun g => H0 (fun h => (h.2.2.2.2.2 e9).1 g)) (fun g => br_c (fun g2 => H0 (fun h => (h.2.2.2.2.2 e9).2 g2)) (fun g2 => H1 ⟨fun _ z => absurd z n7, fun _ _ => ga, k1, k2, k3, fun _ => ⟨g, g2⟩⟩))) (fun n9 => H1 ⟨fun _ z => absurd z n7, fun _ _ => ga, k1, k2, k3, fun z => absurd z n9⟩)
  have f71 : (1 ≤ o → o ≤ 5 → gc_in b 7) → (2 ≤ o → o ≤ 5 → gc_in c 7) → wX_fits_71 post (nI o) b c fl fc fe fp ff fo fx fn a1 a2 a3 a4 a5 a6 a7 a8 a9 a10 a11 a12 a13 a14 a15 a16 a17 := fun k1 k2 =>
    pk_lt o 8 (fun z => f87 k1 k2 (fun e => absurd e (by omega))) (fun z => gc_isT (fun g => br_f (by decide) (f87 k1 k2 (fun _ => g))) (fun g => br_t rfl (H0 (fun h => g (h.2.2.2.2.1 (by omega))))))
  have f50 : (1 ≤ o → o ≤ 5 → gc_in b 7) → wX_fits_50 post (nI o) b c fl fc fe fp ff fo fx fn a1 a2 a3 a4 a5 a6 a7 a8 a9 a10 a11 a12 a13 a14 a15 a16 a17 := fun k1 =>
    pk_lt o 2 (fun z => f71 k1 (fun z2 => absurd z2 (by omega))) (fun z => pk_lt 5 o (fun z5 => f71 k1 (fun _ z2 => absurd z2 (by omega))) (fun z5 => gc_isV (fun g => br_f (by decide) (f71 k1 (fun _ _ => g))) (fun g => br_t rfl (H0 (fun h => g (h.2.2.2.1 z z5))))))
  exact pk_lt o 1 (fun z => f50 (fun z2 => absurd z2 (by omega))) (fun z => pk_lt 5 o (fun z5 => f50 (fun _ z2 => absurd z2 (by omega))) (fun z5 => gc_isV (fun g => br_f (by decide) (f50 (fun _ _ => g))) (fun g => br_t rfl (H0 (fun h => g (h.2.2.1 z z5))))))
theorem gc_emit {post : Int32 → St2 → Prop} {o : Nat} {a b c : Int32} (ho : o ≤ 10) (H1 : gc_F o a b c → post 1 (1, 0, fe, fp, ff, fo, fx, fn, upd a1 0 (nI o).toInt8.toInt32, upd a2 0 a.toInt8.toInt32, upd a3 0 b, upd a4 0 c.toInt8.toInt32, a5, a6, a7, a8, a9, a10, a11, a12, a13, a14, a15, a16, a17)) (H0 : ¬ gc_F o a b c → post (-1) (0, fc, fe, fp, ff, fo, fx, fn, a1, a2, a3, a4, a5, a6, a7, a8, a9, a10, a11, a12, a13, a14, a15, a16, a17)) : wpX_emit post (0, fc, fe, fp, ff, fo, fx, fn, a1, a2, a3, a4, a5, a6, a7, a8, a9, a10, a11, a12, a13, a14, a15, a16, a17) (nI o) a b c := by
  refine br_t (by decide) (br_f (nI_pos (by omega)) (br_f (nI_nlt (b := o) (a := 10) ho (by omega)) ?_))
  refine gc_fits ho (fun h => br_f (by decide) ?_) (fun h => br_t rfl (H0 h))
  exact ⟨pk_in 0 32 (by omega), nm_e ⟨pk_in 0 32 (by omega), nm_e ⟨pk_in 0 32 (by omega), nm_e ⟨pk_in 0 32 (by omega), nm_e (nm_r (show (0 : Int32) + 1 = 1 by decide) (H1 h))⟩⟩⟩⟩
theorem gc_emitN {post : Int32 → St2 → Prop} {op a b c : Int32} (hn : ¬ gc_in op 10) (H0 : post (-1) (0, fc, fe, fp, ff, fo, fx, fn, a1, a2, a3, a4, a5, a6, a7, a8, a9, a10, a11, a12, a13, a14, a15, a16, a17)) : wpX_emit post (0, fc, fe, fp, ff, fo, fx, fn, a1, a2, a3, a4, a5, a6, a7, a8, a9, a10, a11, a12, a13, a14, a15, a16, a17) op a b c :=
  br_t (by decide) (br_c (fun _ => H0) (fun g => br_c (fun _ => H0) (fun g2 => absurd ⟨g, g2⟩ hn)))
/-- what the variable a holds at the start -/
def gc_held (a v val : Int32) : Int32 := if v < 0 then 0 else if 7 < v then 0 else if a = v then val else 0
theorem gc_start {post : Int32 → St2 → Prop} {v val : Int32} (h5 : ∀ j, a5 j = 0) (H : ∀ (r : Int32) (b5 : Nat → Int32), (r = 1 ∧ gc_in v 7 ∨ r = 0 ∧ ¬ gc_in v 7) → (∀ a, a < 8 → b5 a = gc_held (nI a) v val) → post r (fl, fc, fe, fp, ff, fo, fx, fn, a1, a2, a3, a4, b5, a6, a7, a8, a9, a10, a11, a12, a13, a14, a15, a16, a17)) : wpX_start post (fl, fc, fe, fp, ff, fo, fx, fn, a1, a2, a3, a4, a5, a6, a7, a8, a9, a10, a11, a12, a13, a14, a15, a16, a17) v val := by
  unfold wpX_start
  refine gc_isV (fun g => br_f (by decide) ?_) (fun g => br_t rfl (H 0 a5 (Or.inr ⟨rfl, g⟩) (fun a ha => ?_)))
  · obtain ⟨q, lq, eq⟩ := gc_inE (n := 7) (by decide) g
    have hc : v.toNatClampNeg = q := by
      rw [eq]
      exact nI_clamp (by omega)
    refine ⟨pk_in q 8 (by omega) (hx := eq), nm_e (H 1 _ (Or.inl ⟨rfl, g⟩) (fun a ha => ?_))⟩
    rw [hc]
    unfold gc_held
    rw [if_neg g.1, if_neg g.2]
    by_cases e : a = q
    · rw [e, pk_us, if_pos eq.symm]
    · rw [pk_un e, if_neg, h5]
      intro z
      rw [eq] at z
      exact e ((nI_eq (by omega) (by omega)).mp z)
  · rw [h5]
    unfold gc_held
    by_cases g1 : v < 0
    · rw [if_pos g1]
    · by_cases g2 : 7 < v
      · rw [if_neg g1, if_pos g2]
      · exact absurd ⟨g1, g2⟩ g
/-- what fits is an instruction; its fields are kept as they are -/
theorem gc_okF {o : Nat} {a b c : Int32} (ho : o ≤ 10) (h : gc_F o a b c) : gc_ok o a.toInt8.toInt32 b c.toInt8.toInt32 ∧ (o ≠ 10 → a.toInt8.toInt32 = a) ∧ (2 ≤ o → o ≤ 5 → c.toInt8.toInt32 = c) ∧ (o = 9 → c.toInt8.toInt32 = c) := by
  obtain ⟨k1, k2, k3, k4, k5, k6⟩ := h
  have ka : o ≠ 10 → ∃ j, a = nI j ∧ j < 32 ∧ (o ≠ 7 → j < 8) := by
    intro n10
    by_cases e7 : o = 7
    · obtain ⟨j, lj, ej⟩ := gc_inE (n := 31) (by decide) (k1 n10 e7)
      exact ⟨j, ej, by omega, fun z => absurd e7 z⟩
    · obtain ⟨j, lj, ej⟩ := gc_inE (n := 7) (by decide) (k2 n10 e7)
      exact ⟨j, ej, by omega, fun _ => by omega⟩
  have kc : 2 ≤ o → o ≤ 5 → ∃ j, c = nI j ∧ j < 8 := by
    intro z z5
    obtain ⟨j, lj, ej⟩ := gc_inE (n := 7) (by decide) (k4 z z5)
    exact ⟨j, ej, by omega⟩
  have k9 : o = 9 → ∃ j, c = nI j ∧ 1 ≤ j ∧ j ≤ 4 := by
    intro e9
    obtain ⟨g1, g2⟩ := k6 e9
    have g0 : ¬ c < 0 := fun z => g1 (Int32.lt_trans z (by decide))
    obtain ⟨j, lj, ej⟩ := gc_inE (q := 4) (n := 4) (by decide) ⟨g0, g2⟩
    refine ⟨j, ej, ?_, lj⟩
    rcases Nat.eq_zero_or_pos j with z | z
    · rw [ej, z] at g1
      exact absurd (by decide) g1
    · exact z
  have a8 : o ≠ 10 → a.toInt8.toInt32 = a := by
    intro n10
    obtain ⟨j, ej, lj, _⟩ := ka n10
    rw [ej]
    exact gc_b8 j lj
  have c8 : 2 ≤ o → o ≤ 5 → c.toInt8.toInt32 = c := by
    intro z z5
    obtain ⟨j, ej, lj⟩ := kc z z5
    rw [ej]
    exact gc_b8 j (by omega)
  have c9 : o = 9 → c.toInt8.toInt32 = c := by
    intro z
    obtain ⟨j, ej, _, lj⟩ := k9 z
    rw [ej]
    exact gc_b8 j (by omega)
  refine ⟨⟨ho, ?_, ?_, ?_, ?_, ?_⟩, a8, c8, c9⟩
  · intro n10
    rw [a8 n10]
    exact ka n10
  · intro z z5
    obtain ⟨j, lj, ej⟩ := gc_inE (n := 7) (by decide) (k3 z z5)
    exact ⟨j, ej, by omega⟩
  · intro z z5
    rw [c8 z z5]
    exact kc z z5
  · intro z
    obtain ⟨j, lj, ej⟩ := gc_inE (n := 31) (by decide) (k5 z)
    exact ⟨j, ej, by omega⟩
  · intro z
    rw [c9 z]
    exact k9 z
theorem gc_RF {o : Nat} {a b c : Int32} (ho : o ≤ 10) (h : gc_F o a b c) : gc_R o a.toInt8.toInt32 b c.toInt8.toInt32 = gc_R o a b c := by
  obtain ⟨_, e1, e2, e3⟩ := gc_okF ho h
  by_cases h1 : o = 1
  · rw [gc_R1 h1, gc_R1 h1]
  by_cases h2 : 2 ≤ o ∧ o ≤ 5
  · rw [e1 (by omega), e2 h2.1 h2.2]
  by_cases h3 : o = 6 ∨ o = 8 ∨ o = 9
  · rw [gc_R3 h3, gc_R3 h3, e1 (by omega)]
  · rw [gc_R4 (by omega), gc_R4 (by omega)]
theorem gc_agF {o : Nat} {a b c w : Int32} (ho : o ≤ 10) (h : gc_F o a b c) : gc_ag o a.toInt8.toInt32 b c.toInt8.toInt32 w ↔ gc_ag o a b c w := by
  obtain ⟨_, e1, e2, e3⟩ := gc_okF ho h
  unfold gc_ag
  constructor
  · rintro (⟨z, g⟩ | z | ⟨z, g⟩)
    · rw [e1 (by omega)] at g
      exact Or.inl ⟨z, g⟩
    · exact Or.inr (Or.inl z)
    · rw [e3 z] at g
      exact Or.inr (Or.inr ⟨z, g⟩)
  · rintro (⟨z, g⟩ | z | ⟨z, g⟩)
    · refine Or.inl ⟨z, ?_⟩
      rw [e1 (by omega)]
      exact g
    · exact Or.inr (Or.inl z)
    · refine Or.inr (Or.inr ⟨z, ?_⟩)
      rw [e3 z]
      exact g
/-- after a run over no instruction -/
theorem gc_385n {post : Int32 → St0 → Prop} {mc ms kc ks : Nat} {x0 x7 x9 : Int32} (hp : post 1 ()) : wL_lawOf_385 post mc ms x0 0 x7 0 x9 (-1) (-1) kc ks 0 0 fe fp ff fo fx fn a1 a2 a3 a4 a5 a6 a7 a8 a9 a10 a11 a12 a13 a14 a15 a16 a17 := by
  refine br_t rfl (gc_run0 (fun E p f b6 b7 b8 b9 b10 b11 b12 b13 b14 b15 b16 => br_t rfl (br_t rfl (br_t rfl (br_t rfl ?_)))))
  refine br_f (by decide) (br_t (by decide) (br_t rfl (br_t rfl ?_)))
  exact br_f (by decide) (br_f (by decide) (br_t rfl (br_t rfl hp)))
/-- output and liveness, after a run over one instruction -/
theorem gc_435 {post : Int32 → St0 → Prop} {mc ms kc ks : Nat} {o : Nat} {w R z z' : Int32} (hp : post 1 ()) (ho : o ≤ 10) (hz : z' = z) (h6 : a6 0 = R) (hn6 : o = 6 → fn = 1 ∧ a17 0 = w) (hn : o ≠ 6 → fn = 0) : wL_lawOf_435 post mc ms (nI o) 1 w R z z' kc ks 1 1 fe fp ff fo fx fn a1 a2 a3 a4 a5 a6 a7 a8 a9 a10 a11 a12 a13 a14 a15 a16 a17 := by
  have h463 : ∀ y, wL_lawOf_463 post mc ms 1 R y y kc ks 1 1 fe fp ff fo fx fn a1 a2 a3 a4 a5 a6 a7 a8 a9 a10 a11 a12 a13 a14 a15 a16 a17 := fun y =>
    br_t rfl (br_f (by decide) (br_t (by decide) (br_f (by decide) ⟨pk_in 0 32 (by omega), br_f (by decide) (br_t h6 hp)⟩)))
  refine br_t hz (br_f (by decide) ?_)
  by_cases e6 : o = 6
  · obtain ⟨e, e17⟩ := hn6 e6
    subst e
    refine br_f (by decide) (br_t (by decide) ⟨pk_in 0 32 (by omega), br_f (by decide) (pk_eq o 6 (fun _ => ?_) (fun z => absurd e6 z))⟩)
    have h := h463 w
    rw [← e17] at h ⊢
    exact h
  · have e := hn e6
    subst e
    exact br_t (by decide) (br_f (by decide) (pk_eq o 6 (fun z => absurd z e6) (fun _ => h463 0)))
/-- the run over one instruction, and what is asked after it -/
theorem gc_385f {post : Int32 → St0 → Prop} {mc ms kc ks : Nat} {o : Nat} {A B C w R x8 : Int32} (hp : post 1 ()) (ok : gc_ok o A B C) (h1 : a1 0 = nI o) (h2 : a2 0 = A) (h3 : a3 0 = B) (h4 : a4 0 = C) (hw : ∀ a, o ≠ 10 → A = nI a → a < 8 → a5 a = w) (hR : gc_R o A B C = R) (h8 : x8 = 1 ∧ gc_ag o A B C w ∨ x8 = 0 ∧ ¬ gc_ag o A B C w) : wL_lawOf_385 post mc ms (nI o) 1 w x8 R 1 1 kc ks 1 0 fe fp ff fo fx fn a1 a2 a3 a4 a5 a6 a7 a8 a9 a10 a11 a12 a13 a14 a15 a16 a17 := by
  refine br_t rfl (gc_run1 ok h1 h2 h3 h4 hw (fun r E p f s x n b6 b7 b8 b9 b10 b11 b12 b13 b14 b15 b16 b17 h6 hag hna hn6 hn => ?_))
  rcases h8 with ⟨rfl, g⟩ | ⟨rfl, g⟩
  · obtain ⟨er, ex⟩ := hag g
    exact br_f (by decide) (br_t er (br_f (by decide) (br_f (by decide) (gc_435 hp ok.1 ex (h6.trans hR) hn6 hn))))
  · obtain ⟨er, ex⟩ := hna g
    exact br_t rfl (br_t er (br_f (by decide) (br_t rfl (gc_435 hp ok.1 ex (h6.trans hR) hn6 hn))))
end
end
section
/-! the law -/
section
variable {post : Int32 → St0 → Prop} {mc ms kc ks o : Nat} {x0 a b c v val x6 x7 x8 w : Int32}
/-- new, start, emit: what stands before 385 -/
theorem gc_336n (hp : post 1 ()) (hmc : kc + 18 ≤ mc) (hms : ks + 1195 ≤ ms) (hn : ¬ gc_in x0 10 ∨ ∃ o, o ≤ 10 ∧ x0 = nI o ∧ ¬ gc_F o a b c) (x9 : Int32) : wL_lawOf_336 post mc ms x0 a b c v val 0 x7 0 x9 kc ks := by
  refine ⟨by omega, by omega, 17, 1170, by omega, by omega, ?_⟩
  refine ⟨by omega, by omega, by omega, by omega, by omega, by omega, by omega, by omega, by omega, by omega, by omega, by omega, by omega, by omega, by omega, by omega, by omega, by omega, by omega, by omega, by omega, by omega, by omega, by omega, by omega, by omega, by omega, by omega, by omega, by omega, by omega, by omega, by omega, by omega, ?_⟩
  refine gc_start (fun _ => rfl) (fun r b5 hr h5 => ?_)
  have hin : ∀ {P : Int32 → Prop}, P r → wpL_in P () v 7 := by
    intro P h
    rcases hr with ⟨rfl, g⟩ | ⟨rfl, g⟩
    · exact gc_inL (fun _ => h) (fun z => absurd g z)
    · exact gc_inL (fun z => absurd z g) (fun _ => h)
  refine hin (br_t rfl ?_)
  rcases hn with hn | ⟨o, ho, rfl, hF⟩
  · exact gc_emitN hn (br_t rfl (gc_385n hp))
  · exact gc_emit ho (fun z => absurd z hF) (fun _ => br_t rfl (gc_385n hp))
theorem gc_336f (hp : post 1 ()) (hmc : kc + 18 ≤ mc) (hms : ks + 1195 ≤ ms) (ho : o ≤ 10) (hF : gc_F o a b c) (hw : w = gc_held a v val) (h8 : x8 = 1 ∧ gc_ag o a b c w ∨ x8 = 0 ∧ ¬ gc_ag o a b c w) : wL_lawOf_336 post mc ms (nI o) a b c v val 1 w x8 (gc_R o a b c) kc ks := by
  obtain ⟨ok, e1, _, _⟩ := gc_okF ho hF
  refine ⟨by omega, by omega, 17, 1170, by omega, by omega, ?_⟩
  refine ⟨by omega, by omega, by omega, by omega, by omega, by omega, by omega, by omega, by omega, by omega, by omega, by omega, by omega, by omega, by omega, by omega, by omega, by omega, by omega, by omega, by omega, by omega, by omega, by omega, by omega, by omega, by omega, by omega, by omega, by omega, by omega, by omega, by omega, by omega, ?_⟩
  refine gc_start (fun _ => rfl) (fun r b5 hr h5 => ?_)
  have hin : ∀ {P : Int32 → Prop}, P r → wpL_in P () v 7 := by
    intro P h
    rcases hr with ⟨rfl, g⟩ | ⟨rfl, g⟩
    · exact gc_inL (fun _ => h) (fun z => absurd g z)
    · exact gc_inL (fun z => absurd z g) (fun _ => h)
  refine hin (br_t rfl ?_)
  refine gc_emit ho (fun _ => br_f (by decide) ?_) (fun z => absurd hF z)
  refine gc_385f hp ok (pk_us.trans (gc_b8 o (by omega))) pk_us pk_us pk_us (fun j n10 ej lj => ?_) (gc_RF ho hF) ?_
  · rw [h5 j lj, hw, ← ej, e1 n10]
  · rw [gc_agF ho hF]
    exact h8
/-- what it reads, as the law has it -/
theorem gc_264n (H : ∀ x9, wL_lawOf_336 post mc ms x0 a b c v val x6 x7 x8 x9 kc ks) : wL_lawOf_264 post mc ms x0 a b c v val x6 x7 x8 kc ks := by
  have f313 : ∀ z, wL_lawOf_313 post mc ms x0 a b c v val x6 x7 x8 z kc ks := fun z => br_c (fun _ => H z) (fun _ => br_c (fun _ => H z) (fun _ => nm_e (H _)))
  have f285 : wL_lawOf_285 post mc ms x0 a b c v val x6 x7 x8 kc ks := br_c (fun _ => f313 _) (fun _ => br_c (fun _ => f313 _) (fun _ => br_c (fun _ => f313 _) (fun _ => f313 _)))
  exact br_c (fun _ => f285) (fun _ => br_c (fun _ => f285) (fun _ => f313 _))
theorem gc_m7 {x : Int32} (h : gc_in x 7) : x &&& 7 = x := by
  obtain ⟨j, lj, ej⟩ := gc_inE (n := 7) (by decide) h
  rw [ej]
  exact gc_a7 j (by omega)
theorem gc_264f (ho : o ≤ 10) (hF : gc_F o a b c) (H : wL_lawOf_336 post mc ms (nI o) a b c v val x6 x7 x8 (gc_R o a b c) kc ks) : wL_lawOf_264 post mc ms (nI o) a b c v val x6 x7 x8 kc ks := by
  have f313 : ∀ z, (o < 2 ∨ 5 < o → z = gc_R o a b c) → (2 ≤ o → o ≤ 5 → z ||| ((1 : Int32) <<< ((c &&& 7) &&& 31)) = gc_R o a b c) → wL_lawOf_313 post mc ms (nI o) a b c v val x6 x7 x8 z kc ks := by
    intro z k1 k2
    refine pk_lt o 2 (fun q => ?_) (fun q => pk_lt 5 o (fun q5 => ?_) (fun q5 => nm_r (k2 q q5) H))
    · rw [k1 (Or.inl q)]
      exact H
    · rw [k1 (Or.inr q5)]
      exact H
  have f303 : o = 6 ∨ o = 8 ∨ o = 9 → wL_lawOf_303 post mc ms (nI o) a b c v val x6 x7 x8 kc ks := by
    intro q
    refine f313 _ (fun _ => ?_) (fun _ q5 => absurd q5 (by omega))
    rw [gc_R3 q, gc_m7 (hF.2.1 (by omega) (by omega))]
  have f285 : o = 0 ∨ 5 < o → wL_lawOf_285 post mc ms (nI o) a b c v val x6 x7 x8 kc ks := by
    intro q
    refine pk_eq o 6 (fun e => f303 (by omega)) (fun n6 => pk_eq o 8 (fun e => f303 (by omega)) (fun n8 => pk_eq o 9 (fun e => f303 (by omega)) (fun n9 => ?_)))
    refine f313 _ (fun _ => ?_) (fun _ q5 => absurd q5 (by omega))
    rw [gc_R4 (by omega)]
  refine pk_lt o 1 (fun q => f285 (by omega)) (fun q => pk_lt 5 o (fun q5 => f285 (by omega)) (fun q5 => ?_))
  refine f313 _ (fun z => ?_) (fun z z5 => ?_)
  · rw [gc_R1 (by omega), gc_m7 (hF.2.2.1 q q5)]
  · rw [gc_R2 z z5, gc_m7 (hF.2.2.1 q q5), gc_m7 (hF.2.2.2.1 z z5)]
/-- does it go again -/
theorem gc_191n (H : wL_lawOf_264 post mc ms x0 a b c v val 0 w 0 kc ks) : wL_lawOf_191 post mc ms x0 a b c v val 0 w kc ks := by
  have f218 : wL_lawOf_218 post mc ms x0 a b c v val 0 w kc ks := br_t rfl H
  have f222 : wL_lawOf_222 post mc ms x0 a b c v val 0 w kc ks := br_t rfl H
  have f203 : wL_lawOf_203 post mc ms x0 a b c v val 0 w kc ks := br_c (fun _ => br_c (fun _ => br_c (fun _ => f222) (fun _ => f218)) (fun _ => f222)) (fun _ => f222)
  exact br_c (fun _ => br_c (fun _ => f218) (fun _ => f203)) (fun _ => f203)
theorem gc_191f (ho : o ≤ 10) (H1 : gc_ag o a b c w → wL_lawOf_264 post mc ms (nI o) a b c v val 1 w 1 kc ks) (H0 : ¬ gc_ag o a b c w → wL_lawOf_264 post mc ms (nI o) a b c v val 1 w 0 kc ks) : wL_lawOf_191 post mc ms (nI o) a b c v val 1 w kc ks := by
  have f218 : gc_ag o a b c w → wL_lawOf_218 post mc ms (nI o) a b c v val 1 w kc ks := fun g => br_f (by decide) (br_f (by decide) (H1 g))
  have f222 : ¬ (o = 7 ∧ a = 0) → ¬ (o = 8 ∧ b = 0 ∧ ¬ w = 0) → wL_lawOf_222 post mc ms (nI o) a b c v val 1 w kc ks := by
    intro k1 k2
    have kk : ¬ (o = 9 ∧ ¬ w < 0 ∧ ¬ c ≤ w ∧ b + w = 0) → wL_lawOf_263 post mc ms (nI o) a b c v val 1 w kc ks := fun k3 => H0 (fun g => g.elim k1 (fun g => g.elim k2 k3))
    refine br_f (by decide) (br_t rfl (pk_eq o 9 (fun e => br_c (fun g => ?_) (fun g => br_c (fun g1 => ?_) (fun g1 => br_c (fun g2 => ?_) (fun g2 => ?_)))) (fun n9 => ?_)))
    · exact kk (fun z => z.2.1 g)
    · exact kk (fun z => z.2.2.1 g1)
    · exact H1 (Or.inr (Or.inr ⟨e, g, g1, g2⟩))
    · exact kk (fun z => g2 z.2.2.2)
    · exact kk (fun z => n9 z.1)
  have f203 : ¬ (o = 7 ∧ a = 0) → wL_lawOf_203 post mc ms (nI o) a b c v val 1 w kc ks := by
    intro k1
    refine pk_eq o 8 (fun e => br_c (fun g => br_c (fun g1 => ?_) (fun g1 => ?_)) (fun g => ?_)) (fun n8 => ?_)
    · exact f222 k1 (fun z => z.2.2 g1)
    · exact f218 (Or.inr (Or.inl ⟨e, g, g1⟩))
    · exact f222 k1 (fun z => g z.2.1)
    · exact f222 k1 (fun z => n8 z.1)
  refine pk_eq o 7 (fun e => br_c (fun g => f218 (Or.inl ⟨e, g⟩)) (fun g => f203 (fun z => g z.2))) (fun n7 => f203 (fun z => n7 z.1))
theorem gc_169 (H : wL_lawOf_191 post mc ms x0 a b c v val x6 (gc_held a v val) kc ks) : wL_lawOf_169 post mc ms x0 a b c v val x6 kc ks := by
  unfold gc_held at H
  refine br_c (fun g => br_t rfl ?_) (fun g => br_c (fun g2 => br_t rfl ?_) (fun g2 => br_f (by decide) (br_c (fun e => ?_) (fun e => ?_))))
  · rw [if_pos g] at H
    exact H
  · rw [if_neg g, if_pos g2] at H
    exact H
  · rw [if_neg g, if_neg g2, if_pos e] at H
    exact H
  · rw [if_neg g, if_neg g2, if_neg e] at H
    exact H
/-- it doesn't fit: so it stays -/
theorem gc_141n (H : wL_lawOf_169 post mc ms x0 a b c v val 0 kc ks) : wL_lawOf_141 post mc ms x0 a b c v val 0 kc ks := br_c (fun _ => br_t rfl H) (fun _ => H)
theorem gc_108n (H : wL_lawOf_169 post mc ms x0 a b c v val 0 kc ks) : wL_lawOf_108 post mc ms x0 a b c v val 0 kc ks :=
  br_c (fun _ => br_t rfl (gc_141n H)) (fun _ => br_c (fun _ => br_t rfl (gc_141n H)) (fun _ => gc_141n H))
theorem gc_77n (H : wL_lawOf_169 post mc ms x0 a b c v val 0 kc ks) : wL_lawOf_77 post mc ms x0 a b c v val 0 kc ks :=
  br_c (fun _ => gc_108n H) (fun _ => br_c (fun _ => gc_108n H) (fun _ => br_t rfl (gc_108n H)))
theorem gc_46n (H : wL_lawOf_169 post mc ms x0 a b c v val 0 kc ks) : wL_lawOf_46 post mc ms x0 a b c v val 0 kc ks :=
  br_c (fun _ => gc_77n H) (fun _ => br_c (fun _ => gc_77n H) (fun _ => br_t rfl (gc_77n H)))
/-- it fits so far: does it fit -/
theorem gc_46f (ho : o ≤ 10) (k1 : o ≠ 10 → o = 7 → gc_in a 31) (k2 : o ≠ 10 → o ≠ 7 → gc_in a 7) (H1 : gc_F o a b c → wL_lawOf_169 post mc ms (nI o) a b c v val 1 kc ks) (H0 : ¬ gc_F o a b c → wL_lawOf_169 post mc ms (nI o) a b c v val 0 kc ks) : wL_lawOf_46 post mc ms (nI o) a b c v val 1 kc ks := by
  have f141 : (1 ≤ o → o ≤ 5 → gc_in b 7) → (2 ≤ o → o ≤ 5 → gc_in c 7) → (o = 8 ∨ o = 9 → gc_in b 31) → wL_lawOf_141 post mc ms (nI o) a b c v val 1 kc ks := by
    intro k3 k4 k5
    refine pk_eq o 9 (fun e => br_f (by decide) (br_c (fun g => ?_) (fun g => br_c (fun g2 => ?_) (fun g2 => ?_)))) (fun n9 => ?_)
    · exact H0 (fun h => (h.2.2.2.2.2 e).1 g)
    · exact H0 (fun h => (h.2.2.2.2.2 e).2 g2)
    · exact H1 ⟨k1, k2, k3, k4, k5, fun _ => ⟨g, g2⟩⟩
    · exact H1 ⟨k1, k2, k3, k4, k5, fun z => absurd z n9⟩
  have f120 : (1 ≤ o → o ≤ 5 → gc_in b 7) → (2 ≤ o → o ≤ 5 → gc_in c 7) → (o = 8 ∨ o = 9) → wL_lawOf_120 post mc ms (nI o) a b c v val 1 kc ks := by
    intro k3 k4 e
    refine br_f (by decide) (gc_inL (fun g => br_f (by decide) ?_) (fun g => br_t rfl ?_))
    · exact f141 k3 k4 (fun _ => g)
    · exact gc_141n (H0 (fun h => g (h.2.2.2.2.1 e)))
  have f108 : (1 ≤ o → o ≤ 5 → gc_in b 7) → (2 ≤ o → o ≤ 5 → gc_in c 7) → wL_lawOf_108 post mc ms (nI o) a b c v val 1 kc ks := by
    intro k3 k4
    exact pk_eq o 8 (fun e => f120 k3 k4 (Or.inl e)) (fun n8 => pk_eq o 9 (fun e => f120 k3 k4 (Or.inr e)) (fun n9 => f141 k3 k4 (fun z => absurd z (by omega))))
  have f77 : (1 ≤ o → o ≤ 5 → gc_in b 7) → wL_lawOf_77 post mc ms (nI o) a b c v val 1 kc ks := by
    intro k3
    refine pk_lt o 2 (fun q => f108 k3 (fun z => absurd z (by omega))) (fun q => pk_lt 5 o (fun q5 => f108 k3 (fun _ z => absurd z (by omega))) (fun q5 => br_f (by decide) (gc_inL (fun g => br_f (by decide) ?_) (fun g => br_t rfl ?_))))
    · exact f108 k3 (fun _ _ => g)
    · exact gc_108n (H0 (fun h => g (h.2.2.2.1 q q5)))
  refine pk_lt o 1 (fun q => f77 (fun z => absurd z (by omega))) (fun q => pk_lt 5 o (fun q5 => f77 (fun _ z => absurd z (by omega))) (fun q5 => br_f (by decide) (gc_inL (fun g => br_f (by decide) ?_) (fun g => br_t rfl ?_))))
  · exact f77 (fun _ _ => g)
  · exact gc_77n (H0 (fun h => g (h.2.2.1 q q5)))
theorem gc_lawOf (hp : post 1 ()) (hmc : 18 ≤ mc) (hms : 1195 ≤ ms) : wpL_lawOf post mc ms () x0 a b c v val := by
  have hN : (¬ gc_in x0 10 ∨ ∃ o, o ≤ 10 ∧ x0 = nI o ∧ ¬ gc_F o a b c) → wL_lawOf_169 post mc ms x0 a b c v val 0 0 0 := fun h =>
    gc_169 (gc_191n (gc_264n (gc_336n hp (by omega) (by omega) h)))
  refine gc_inL (fun g => ?_) (fun g => br_c (fun _ => gc_46n (hN (Or.inl g))) (fun _ => br_t rfl (gc_46n (hN (Or.inl g)))))
  obtain ⟨o, ho, rfl⟩ := gc_inE (n := 10) (by decide) g
  have hN' : ¬ gc_F o a b c → wL_lawOf_169 post mc ms (nI o) a b c v val 0 0 0 := fun h => hN (Or.inr ⟨o, ho, rfl, h⟩)
  have hF : gc_F o a b c → wL_lawOf_169 post mc ms (nI o) a b c v val 1 0 0 := fun h =>
    gc_169 (gc_191f ho (fun ga => gc_264f ho h (gc_336f hp (by omega) (by omega) ho h rfl (Or.inl ⟨rfl, ga⟩))) (fun ga => gc_264f ho h (gc_336f hp (by omega) (by omega) ho h rfl (Or.inr ⟨rfl, ga⟩))))
  refine pk_eq o 10 (fun e => gc_46f ho (fun z => absurd e z) (fun z => absurd e z) hF hN') (fun n10 => br_f (by decide) (pk_eq o 7 (fun e7 => gc_inL (fun ga => br_f (by decide) ?_) (fun ga => br_t rfl ?_)) (fun n7 => gc_inL (fun ga => br_f (by decide) ?_) (fun ga => br_t rfl ?_))))
  · exact gc_46f ho (fun _ _ => ga) (fun _ z => absurd e7 z) hF hN'
  · exact gc_46n (hN' (fun h => ga (h.1 n10 e7)))
  · exact gc_46f ho (fun _ z => absurd z n7) (fun _ _ => ga) hF hN'
  · exact gc_46n (hN' (fun h => ga (h.2.1 n10 n7)))
end
theorem gc_cell {post : Int32 → Prop} {L : Nat} {xs : Nat → Int32} {u : St0} {k : Nat} (hL : L ≤ 6) (hk : k < 6) (H : ∀ r, post r) : wpL_cellAt post L xs u (nI k) :=
  pk_le L k (fun _ => H _) (fun z => ⟨pk_in k L z, H _⟩)
theorem i_vc (xs : Nat → Int32) (L : Nat) (hL : L ≤ 6) : wpL_law (fun r => r = 1) L xs := by
  unfold wpL_law
  refine gc_cell (k := 0) hL (by omega) (fun r1 => gc_cell (k := 1) hL (by omega) (fun r2 => gc_cell (k := 2) hL (by omega) (fun r3 => gc_cell (k := 3) hL (by omega) (fun r4 => gc_cell (k := 4) hL (by omega) (fun r5 => gc_cell (k := 5) hL (by omega) (fun r6 => ?_))))))
  exact ⟨414, 6624, by omega, by omega, gc_lawOf rfl (by omega) (by omega)⟩
end
