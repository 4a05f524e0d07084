section
/-! layOut: its blocks and one step for each kind of piece -/
/-- what stands inside: no group around (z = -1), or the group at q with margin m and flatness f -/
def ps_in (z : Int32) (a9 a10 : Nat → Int32) (m f : Nat) : Prop := (z = -1 ∧ m = 0 ∧ f = 0) ∨ (∃ q : Nat, z = nI q ∧ q < 60 ∧ a10 q = nI m ∧ a9 q = nI f ∧ f < 2)
/-- the same, by the depth e and the stack a5 -/
def ps_ins (e : Nat) (a5 a9 a10 : Nat → Int32) (m f : Nat) : Prop := (e = 0 ∧ m = 0 ∧ f = 0) ∨ (∃ e' q : Nat, e = e' + 1 ∧ e' < 12 ∧ a5 e' = nI q ∧ q < 60 ∧ a10 q = nI m ∧ a9 q = nI f ∧ f < 2)
/-- how the stack's top is read -/
def ps_top (e : Nat) (a5 : Nat → Int32) (z : Int32) : Prop := (e = 0 ∧ z = -1) ∨ (∃ e' : Nat, e = e' + 1 ∧ e' < 12 ∧ a5 e' = z)
theorem ps_ins_z {e m f : Nat} {a5 a9 a10 : Nat → Int32} (h : ps_ins e a5 a9 a10 m f) : ∃ z, ps_top e a5 z ∧ ps_in z a9 a10 m f := by
  rcases h with ⟨h1, h2, h3⟩ | ⟨e', q, h1, h2, h3, h4, h5, h6, h7⟩
  · exact ⟨-1, Or.inl ⟨h1, rfl⟩, Or.inl ⟨rfl, h2, h3⟩⟩
  · exact ⟨nI q, Or.inr ⟨e', h1, h2, h3⟩, Or.inr ⟨q, rfl, h4, h5, h6, h7⟩⟩
theorem ps_any {e : Nat} (a5 : Nat → Int32) (he : e ≤ 12) : ∃ z, ps_top e a5 z := by
  cases e with
  | zero => exact ⟨-1, Or.inl ⟨rfl, rfl⟩⟩
  | succ e' => exact ⟨a5 e', Or.inr ⟨e', rfl, by omega, rfl⟩⟩
theorem ps_nar {f : Nat} (hf : f < 2) : vp_nar .boolean (nI f) = nI f := by
  rcases (show f = 0 ∨ f = 1 by omega) with rfl | rfl
  · rfl
  · rfl
theorem ps_m1lt : ((-1 : Int32) < 0) := by decide
theorem ps_m1le : ¬ ((0 : Int32) ≤ -1) := by decide
section
variable {post : St2 → Prop} {x1 pw pc un me la lr : Int32} {a1 a2 a3 a4 a5 a6 a7 a8 a9 a10 : Nat → Int32} {J : Int32 → Int32 → Int32 → Int32 → Int32 → (Nat → Int32) → (Nat → Int32) → (Nat → Int32) → (Nat → Int32) → (Nat → Int32) → (Nat → Int32) → (Nat → Int32) → (Nat → Int32) → (Nat → Int32) → (Nat → Int32) → Prop}
theorem ps_232 {r col e k g : Nat} (hc : col < 2 ^ 31) (hg : g < 2 ^ 31) (h : J (nI r) (nI col) (nI e) (nI (k + 1)) (nI (max col g)) a1 a2 a3 a4 a5 a6 a7 a8 a9 a10) :
    wX_layOut_232 post J x1 (nI r) (nI col) (nI e) (nI k) pw pc un me la lr (nI g) a1 a2 a3 a4 a5 a6 a7 a8 a9 a10 := by
  unfold wX_layOut_232
  refine pk_le col g (fun z => nm_r (nI_1 k) ?_) (fun z => nm_r (nI_1 k) ?_)
  · rw [Nat.max_eq_right z] at h
    exact h
  · rw [Nat.max_eq_left (by omega)] at h
    exact h
theorem ps_199 {r col e k g s : Nat} (hk : k < 60) (h2 : a2 k = nI s) (hc : col + s < 2 ^ 31) (hg : g < 2 ^ 31) (h : J (nI r) (nI (col + s)) (nI e) (nI (k + 1)) (nI (max (col + s) g)) a1 a2 a3 a4 a5 a6 a7 a8 a9 a10) :
    wX_layOut_199 post J x1 (nI r) (nI col) (nI e) (nI k) pw pc un me la lr (nI g) a1 a2 a3 a4 a5 a6 a7 a8 a9 a10 := by
  unfold wX_layOut_199
  refine ⟨pk_in k 60 hk, nm_r (e' := nI (col + s)) ?_ (ps_232 hc hg h)⟩
  rw [nI_clamp (by omega), h2, nI_add]
theorem ps_212 {r e k g m f : Nat} {z : Int32} (hz : ps_in z a9 a10 m f) (hm : m < 2 ^ 31) (hg : g < 2 ^ 31) (h : J (nI (r + 1)) (nI m) (nI e) (nI (k + 1)) (nI (max m g)) a1 a2 a3 a4 a5 a6 a7 a8 a9 a10) :
    wX_layOut_212 post J x1 (nI r) (nI e) (nI k) z pw pc un me la lr (nI g) a1 a2 a3 a4 a5 a6 a7 a8 a9 a10 := by
  unfold wX_layOut_212
  refine nm_r (nI_1 r) ?_
  rcases hz with ⟨rfl, rfl, _⟩ | ⟨q, rfl, hq, h10, _⟩
  · refine br_f ps_m1le ?_
    unfold wX_layOut_231
    exact ps_232 (col := 0) hm hg h
  · refine br_t (nI_pos' (by omega)) ⟨pk_in q 60 hq, ?_⟩
    unfold wX_layOut_231
    rw [nI_clamp (by omega), h10]
    exact ps_232 hm hg h
theorem ps_133 {r col e k g m s : Nat} (hk : k < 60) (he : e < 12) (h2 : a2 k = nI s) (hc : col < 2 ^ 31) (hg : g < 2 ^ 31)
    (h : J (nI r) (nI col) (nI (e + 1)) (nI (k + 1)) (nI (max col g)) a1 a2 a3 a4 (upd a5 e (nI k)) a6 a7 a8 a9 (upd a10 k (nI (m + s)))) :
    wX_layOut_133 post J x1 (nI r) (nI col) (nI e) (nI k) (nI m) (nI k) pw pc un me la lr (nI g) a1 a2 a3 a4 a5 a6 a7 a8 a9 a10 := by
  unfold wX_layOut_133
  refine ⟨pk_in k 60 hk, pk_in k 60 hk, nm_r (e' := upd a10 k (nI (m + s))) ?_ ⟨pk_in e 12 he, nm_r (e' := upd a5 e (nI k)) ?_ (nm_r (nI_1 e) (ps_232 hc hg h))⟩⟩
  · rw [nI_clamp (by omega), h2, nI_add]
  · rw [nI_clamp (by omega)]
theorem ps_110 {r col e k g m s f fi : Nat} {z : Int32} (hz : ps_in z a9 a10 m fi) (hf : f < 2) (hk : k < 60) (he : e < 12) (h2 : a2 k = nI s) (hc : col < 2 ^ 31) (hg : g < 2 ^ 31)
    (h : J (nI r) (nI col) (nI (e + 1)) (nI (k + 1)) (nI (max col g)) a1 a2 a3 a4 (upd a5 e (nI k)) a6 a7 a8 (upd a9 k (nI f)) (upd a10 k (nI (m + s)))) :
    wX_layOut_110 post J x1 (nI r) (nI col) (nI e) (nI k) z (nI f) (nI k) pw pc un me la lr (nI g) a1 a2 a3 a4 a5 a6 a7 a8 a9 a10 := by
  unfold wX_layOut_110
  refine ⟨pk_in k 60 hk, nm_r (e' := upd a9 k (nI f)) ?_ ?_⟩
  · rw [nI_clamp (by omega), ps_nar hf]
  · rcases hz with ⟨rfl, rfl, _⟩ | ⟨q, rfl, hq, h10, _⟩
    · exact br_f ps_m1le (ps_133 (m := 0) hk he h2 hc hg h)
    · refine br_t (nI_pos' (by omega)) ⟨pk_in q 60 hq, ?_⟩
      rw [nI_clamp (show q < 2 ^ 31 by omega), h10]
      exact ps_133 hk he h2 hc hg h
theorem ps_58o {w r col e k g m s f fi R : Nat} {z : Int32} (hz : ps_in z a9 a10 m fi) (h1 : a1 k = 2) (h2 : a2 k = nI s) (h3 : a3 k = nI R)
    (hf : (f = 1 ∧ (fi = 1 ∨ col + R ≤ w)) ∨ (f = 0 ∧ ¬ fi = 1 ∧ w < col + R)) (hw : w < 2 ^ 31) (hR : col + R < 2 ^ 31) (hk : k < 60) (he : e < 12) (hc : col < 2 ^ 31) (hg : g < 2 ^ 31)
    (h : J (nI r) (nI col) (nI (e + 1)) (nI (k + 1)) (nI (max col g)) a1 a2 a3 a4 (upd a5 e (nI k)) a6 a7 a8 (upd a9 k (nI f)) (upd a10 k (nI (m + s)))) :
    wX_layOut_58 post J (nI w) (nI r) (nI col) (nI e) (nI k) z pw pc un me la lr (nI g) a1 a2 a3 a4 a5 a6 a7 a8 a9 a10 := by
  unfold wX_layOut_58
  refine ⟨pk_in k 60 hk, br_t (by rw [nI_clamp (by omega)]; exact h1) ?_⟩
  have h105 : f = 1 → wX_layOut_105 post J (nI w) (nI r) (nI col) (nI e) (nI k) z (nI k) pw pc un me la lr (nI g) a1 a2 a3 a4 a5 a6 a7 a8 a9 a10 := by
    intro e1
    subst e1
    unfold wX_layOut_105
    exact ps_110 (f := 1) hz (by omega) hk he h2 hc hg h
  have h92 : ¬ fi = 1 → wX_layOut_92 post J (nI w) (nI r) (nI col) (nI e) (nI k) z (nI k) pw pc un me la lr (nI g) a1 a2 a3 a4 a5 a6 a7 a8 a9 a10 := by
    intro hfi
    unfold wX_layOut_92
    refine ⟨pk_in k 60 hk, ?_⟩
    rw [nI_clamp (show k < 2 ^ 31 by omega), h3, nI_add]
    refine pk_lt w (col + R) (fun y => ?_) (fun y => h105 (by omega))
    have e0 : f = 0 := by omega
    subst e0
    exact ps_110 (f := 0) hz (by omega) hk he h2 hc hg h
  rcases hz with ⟨ez, em, ef⟩ | ⟨q, ez, hq, h10, h9, hf2⟩
  · rw [ez]
    rw [ez] at h92
    exact br_t ps_m1lt (h92 (by omega))
  · rw [ez]
    rw [ez] at h92 h105
    refine br_f (nI_pos (by omega)) ⟨pk_in q 60 hq, ?_⟩
    rw [nI_clamp (show q < 2 ^ 31 by omega), h9]
    exact pk_eq fi 0 (fun y => h92 (by omega)) (fun y => h105 (by omega))
theorem ps_58c {r col e k g : Nat} {z : Int32} (h1 : a1 k = 3) (hk : k < 60) (hc : col < 2 ^ 31) (hg : g < 2 ^ 31)
    (h : J (nI r) (nI col) (nI e) (nI (k + 1)) (nI (max col g)) a1 a2 a3 a4 a5 a6 a7 a8 a9 a10) :
    wX_layOut_58 post J x1 (nI r) (nI col) (nI (e + 1)) (nI k) z pw pc un me la lr (nI g) a1 a2 a3 a4 a5 a6 a7 a8 a9 a10 := by
  unfold wX_layOut_58
  rw [nI_clamp (show k < 2 ^ 31 by omega), h1]
  exact ⟨pk_in k 60 hk, br_f (by decide) ⟨pk_in k 60 hk, br_t rfl (nm_r (pk_m1 e) (ps_232 hc hg h))⟩⟩
theorem ps_58w {r col e k g s : Nat} {z : Int32} (h1 : a1 k = 0) (h2 : a2 k = nI s) (hk : k < 60) (hc : col + s < 2 ^ 31) (hg : g < 2 ^ 31)
    (h : J (nI r) (nI (col + s)) (nI e) (nI (k + 1)) (nI (max (col + s) g)) a1 a2 a3 a4 a5 a6 a7 a8 a9 a10) :
    wX_layOut_58 post J x1 (nI r) (nI col) (nI e) (nI k) z pw pc un me la lr (nI g) a1 a2 a3 a4 a5 a6 a7 a8 a9 a10 := by
  unfold wX_layOut_58
  rw [nI_clamp (show k < 2 ^ 31 by omega), h1]
  exact ⟨pk_in k 60 hk, br_f (by decide) ⟨pk_in k 60 hk, br_f (by decide) ⟨pk_in k 60 hk, br_t rfl (ps_199 hk h2 hc hg h)⟩⟩⟩
theorem ps_58b {r col e k g s m f r' col' : Nat} {z : Int32} (hz : ps_in z a9 a10 m f) (h1 : a1 k = 1) (h2 : a2 k = nI s) (hk : k < 60)
    (hf : (f = 1 ∧ r' = r ∧ col' = col + s) ∨ (f = 0 ∧ r' = r + 1 ∧ col' = m)) (hc : col' < 2 ^ 31) (hg : g < 2 ^ 31)
    (h : J (nI r') (nI col') (nI e) (nI (k + 1)) (nI (max col' g)) a1 a2 a3 a4 a5 a6 a7 a8 a9 a10) :
    wX_layOut_58 post J x1 (nI r) (nI col) (nI e) (nI k) z pw pc un me la lr (nI g) a1 a2 a3 a4 a5 a6 a7 a8 a9 a10 := by
  have h199 : f = 1 → wX_layOut_199 post J x1 (nI r) (nI col) (nI e) (nI k) pw pc un me la lr (nI g) a1 a2 a3 a4 a5 a6 a7 a8 a9 a10 := by
    intro e1
    rcases hf with ⟨_, er, ec⟩ | ⟨e0, _⟩
    · subst er ec
      exact ps_199 hk h2 hc hg h
    · exact absurd e0 (by omega)
  have h212 : f = 0 → wX_layOut_212 post J x1 (nI r) (nI e) (nI k) z pw pc un me la lr (nI g) a1 a2 a3 a4 a5 a6 a7 a8 a9 a10 := by
    intro e0
    rcases hf with ⟨e1, _⟩ | ⟨_, er, ec⟩
    · exact absurd e1 (by omega)
    · subst er ec
      exact ps_212 hz hc hg h
  unfold wX_layOut_58
  rw [nI_clamp (show k < 2 ^ 31 by omega), h1]
  refine ⟨pk_in k 60 hk, br_f (by decide) ⟨pk_in k 60 hk, br_f (by decide) ⟨pk_in k 60 hk, br_f (by decide) ?_⟩⟩⟩
  rcases hz with ⟨ez, em, ef⟩ | ⟨q, ez, hq, h10, h9, hf2⟩
  · rw [ez]
    rw [ez] at h212
    exact br_t ps_m1lt (h212 ef)
  · rw [ez]
    rw [ez] at h212
    refine br_f (nI_pos (by omega)) ⟨pk_in q 60 hq, ?_⟩
    rw [nI_clamp (show q < 2 ^ 31 by omega), h9]
    exact pk_eq f 0 (fun y => h212 y) (fun y => h199 (by omega))
theorem ps_15 {n r col e k g : Nat} {z : Int32} (hk : k < 11) (ht : ps_top e a5 z)
    (h : wX_layOut_58 post (wX_layOut_15 post x1 pw (nI 11) un me la lr n) x1 (nI r) (nI col) (nI e) (nI k) z pw (nI 11) un me la lr (nI g) a1 a2 a3 a4 a5 a6 (upd a7 k (nI r)) (upd a8 k (nI col)) a9 a10) :
    wX_layOut_15 post x1 pw (nI 11) un me la lr (n + 1) (nI r) (nI col) (nI e) (nI k) (nI g) a1 a2 a3 a4 a5 a6 a7 a8 a9 a10 := by
  refine pk_le 11 k (fun y => absurd y (by omega)) (fun _ => ⟨pk_in k 60 (by omega), nm_r (e' := upd a7 k (nI r)) (by rw [nI_clamp (by omega)]) ⟨pk_in k 60 (by omega), nm_r (e' := upd a8 k (nI col)) (by rw [nI_clamp (by omega)]) ?_⟩⟩)
  rcases ht with ⟨rfl, rfl⟩ | ⟨e', rfl, he, h5⟩
  · exact br_t rfl h
  · refine br_f (nI_ne0 (by omega) (by omega)) ⟨?_, ?_⟩
    · rw [nI_pred]
      exact pk_in e' 12 he
    · rw [nI_pred, nI_clamp (by omega), h5]
      exact h
theorem ps_sOpen {w n r col e k g m s f fi R : Nat} (g' : Nat) (hg' : g' = max col g) (hk : k < 11) (hi : ps_ins e a5 a9 a10 m fi) (h1 : a1 k = 2) (h2 : a2 k = nI s) (h3 : a3 k = nI R)
    (hf : (f = 1 ∧ (fi = 1 ∨ col + R ≤ w)) ∨ (f = 0 ∧ ¬ fi = 1 ∧ w < col + R)) (hw : w < 2 ^ 31) (hR : col + R < 2 ^ 31) (he : e < 12) (hg : g < 2 ^ 31)
    (h : wX_layOut_15 post (nI w) pw (nI 11) un me la lr n (nI r) (nI col) (nI (e + 1)) (nI (k + 1)) (nI g') a1 a2 a3 a4 (upd a5 e (nI k)) a6 (upd a7 k (nI r)) (upd a8 k (nI col)) (upd a9 k (nI f)) (upd a10 k (nI (m + s)))) :
    wX_layOut_15 post (nI w) pw (nI 11) un me la lr (n + 1) (nI r) (nI col) (nI e) (nI k) (nI g) a1 a2 a3 a4 a5 a6 a7 a8 a9 a10 := by
  subst hg'
  obtain ⟨z, ht, hz⟩ := ps_ins_z hi
  exact ps_15 hk ht (ps_58o hz h1 h2 h3 hf hw hR (by omega) he (by omega) hg h)
theorem ps_sClose {n r col e k g : Nat} (g' : Nat) (hg' : g' = max col g) (hk : k < 11) (he : e < 12) (h1 : a1 k = 3) (hc : col < 2 ^ 31) (hg : g < 2 ^ 31)
    (h : wX_layOut_15 post x1 pw (nI 11) un me la lr n (nI r) (nI col) (nI e) (nI (k + 1)) (nI g') a1 a2 a3 a4 a5 a6 (upd a7 k (nI r)) (upd a8 k (nI col)) a9 a10) :
    wX_layOut_15 post x1 pw (nI 11) un me la lr (n + 1) (nI r) (nI col) (nI (e + 1)) (nI k) (nI g) a1 a2 a3 a4 a5 a6 a7 a8 a9 a10 := by
  subst hg'
  obtain ⟨z, ht⟩ := ps_any (e := e + 1) a5 (by omega)
  exact ps_15 hk ht (ps_58c h1 (by omega) hc hg h)
theorem ps_sWord {n r col e k g s : Nat} (g' : Nat) (hg' : g' = max (col + s) g) (hk : k < 11) (he : e ≤ 12) (h1 : a1 k = 0) (h2 : a2 k = nI s) (hc : col + s < 2 ^ 31) (hg : g < 2 ^ 31)
    (h : wX_layOut_15 post x1 pw (nI 11) un me la lr n (nI r) (nI (col + s)) (nI e) (nI (k + 1)) (nI g') a1 a2 a3 a4 a5 a6 (upd a7 k (nI r)) (upd a8 k (nI col)) a9 a10) :
    wX_layOut_15 post x1 pw (nI 11) un me la lr (n + 1) (nI r) (nI col) (nI e) (nI k) (nI g) a1 a2 a3 a4 a5 a6 a7 a8 a9 a10 := by
  subst hg'
  obtain ⟨z, ht⟩ := ps_any (e := e) a5 he
  exact ps_15 hk ht (ps_58w h1 h2 (by omega) hc hg h)
theorem ps_sBreak {n r col e k g s m f r' col' : Nat} (g' : Nat) (hg' : g' = max col' g) (hk : k < 11) (hi : ps_ins e a5 a9 a10 m f) (h1 : a1 k = 1) (h2 : a2 k = nI s)
    (hf : (f = 1 ∧ r' = r ∧ col' = col + s) ∨ (f = 0 ∧ r' = r + 1 ∧ col' = m)) (hc : col' < 2 ^ 31) (hg : g < 2 ^ 31)
    (h : wX_layOut_15 post x1 pw (nI 11) un me la lr n (nI r') (nI col') (nI e) (nI (k + 1)) (nI g') a1 a2 a3 a4 a5 a6 (upd a7 k (nI r)) (upd a8 k (nI col)) a9 a10) :
    wX_layOut_15 post x1 pw (nI 11) un me la lr (n + 1) (nI r) (nI col) (nI e) (nI k) (nI g) a1 a2 a3 a4 a5 a6 a7 a8 a9 a10 := by
  subst hg'
  obtain ⟨z, ht, hz⟩ := ps_ins_z hi
  exact ps_15 hk ht (ps_58b hz h1 h2 (by omega) hf hc hg h)
end
end
section
/-! layOut as a whole, over the law's eleven pieces -/
/-- the pieces: group i, word a, break, group j, word b, break, word c, close, close, break, word d -/
def ps_src (a b c d i j : Nat) (a1 a2 : Nat → Int32) : Prop :=
  a1 0 = 2 ∧ a1 1 = 0 ∧ a1 2 = 1 ∧ a1 3 = 2 ∧ a1 4 = 0 ∧ a1 5 = 1 ∧ a1 6 = 0 ∧ a1 7 = 3 ∧ a1 8 = 3 ∧ a1 9 = 1 ∧ a1 10 = 0 ∧
  a2 0 = nI i ∧ a2 1 = nI a ∧ a2 2 = nI 1 ∧ a2 3 = nI j ∧ a2 4 = nI b ∧ a2 5 = nI 1 ∧ a2 6 = nI c ∧ a2 9 = nI 1 ∧ a2 10 = nI d
/-- the bounds of the law's numbers -/
def ps_bd (a b c d i j : Nat) : Prop := 1 ≤ a ∧ a ≤ 20 ∧ 1 ≤ b ∧ b ≤ 20 ∧ 1 ≤ c ∧ c ≤ 20 ∧ 1 ≤ d ∧ d ≤ 20 ∧ i ≤ 8 ∧ j ≤ 8
/-- one of three, by what fits into w -/
def ps_3 (a b c i w : Nat) (x y z : Nat) : Nat := if a + b + c + 2 ≤ w then x else if i + b + 1 + c ≤ w then y else z
theorem ps_31 {a b c i w x y z : Nat} (h : a + b + c + 2 ≤ w) : ps_3 a b c i w x y z = x := if_pos h
theorem ps_32 {a b c i w x y z : Nat} (h : w < a + b + c + 2) (h2 : i + b + 1 + c ≤ w) : ps_3 a b c i w x y z = y := by
  unfold ps_3
  rw [if_neg (by omega), if_pos h2]
theorem ps_33 {a b c i w x y z : Nat} (h : w < a + b + c + 2) (h2 : w < i + b + 1 + c) : ps_3 a b c i w x y z = z := by
  unfold ps_3
  rw [if_neg (by omega), if_neg (by omega)]
/-- what a layout for the width w leaves -/
def ps_laid (a b c d i j w : Nat) (lr gc : Int32) (a7 a8 a9 : Nat → Int32) : Prop :=
  lr = nI (ps_3 a b c i w 1 2 3) ∧ gc = nI (max (max a (ps_3 a b c i w (a + b + c + 2) (i + b + 1 + c) (max (i + b) (i + j + c)))) d) ∧
  a7 2 = nI 0 ∧ a7 4 = nI (ps_3 a b c i w 0 1 1) ∧ a7 7 = nI (ps_3 a b c i w 0 1 2) ∧ a7 8 = nI (ps_3 a b c i w 0 1 2) ∧ a7 10 = nI (ps_3 a b c i w 1 2 3) ∧
  a8 2 = nI a ∧ a8 4 = nI (ps_3 a b c i w (a + 1) i i) ∧ a8 6 = nI (ps_3 a b c i w (a + b + 2) (i + b + 1) (i + j)) ∧
  a8 9 = nI (ps_3 a b c i w (a + b + c + 2) (i + b + 1 + c) (i + j + c)) ∧ a8 10 = nI 0 ∧
  a9 0 = nI (ps_3 a b c i w 1 0 0) ∧ a9 3 = nI (ps_3 a b c i w 1 1 0)
section
variable {post : St2 → Prop} {pw un me la lr gc : Int32} {a1 a2 a3 a4 a5 a6 a7 a8 a9 a10 : Nat → Int32}
/-- the eleven steps, the two groups' outcomes as numbers -/
theorem ps_chain {a b c d i j w f0 f3 r1 c1 r2 c2 : Nat} (hb : ps_bd a b c d i j) (hs : ps_src a b c d i j a1 a2) (h30 : a3 0 = nI (a + b + c + 2)) (h33 : a3 3 = nI (b + 1 + c)) (hw : w ≤ 100)
    (hf0 : (f0 = 1 ∧ a + b + c + 2 ≤ w) ∨ (f0 = 0 ∧ w < a + b + c + 2))
    (hc1 : (f0 = 1 ∧ r1 = 0 ∧ c1 = a + 1) ∨ (f0 = 0 ∧ r1 = 1 ∧ c1 = i))
    (hf3 : (f3 = 1 ∧ (f0 = 1 ∨ c1 + (b + 1 + c) ≤ w)) ∨ (f3 = 0 ∧ ¬ f0 = 1 ∧ w < c1 + (b + 1 + c)))
    (hc2 : (f3 = 1 ∧ r2 = r1 ∧ c2 = c1 + b + 1) ∨ (f3 = 0 ∧ r2 = r1 + 1 ∧ c2 = i + j))
    (H : ∀ (g : Nat) (b5 b7 b8 b9 b10 : Nat → Int32), g = max (max a (max (c1 + b) (c2 + c))) d →
      b7 2 = nI 0 → b7 4 = nI r1 → b7 7 = nI r2 → b7 8 = nI r2 → b7 10 = nI (r2 + 1) →
      b8 2 = nI a → b8 4 = nI c1 → b8 6 = nI c2 → b8 9 = nI (c2 + c) → b8 10 = nI 0 → b9 0 = nI f0 → b9 3 = nI f3 →
      post (pw, nI 11, un, me, la, nI (r2 + 1), nI g, a1, a2, a3, a4, b5, a6, b7, b8, b9, b10)) :
    wpX_layOut post (pw, nI 11, un, me, la, lr, gc, a1, a2, a3, a4, a5, a6, a7, a8, a9, a10) (nI w) := by
  obtain ⟨p1, p2, p3, p4, p5, p6, p7, p8, p9, p10⟩ := hb
  obtain ⟨s0, s1, s2, s3, s4, s5, s6, s7, s8, s9, s10, z0, z1, z2, z3, z4, z5, z6, z9, z10⟩ := hs
  have k0 : f0 < 2 := by omega
  have k3 : f3 < 2 := by omega
  have kc1 : c1 ≤ 21 := by omega
  have kc2 : c2 ≤ 42 := by omega
  refine ⟨12, ?_⟩
  show wX_layOut_15 post (nI w) pw (nI 11) un me la lr (11 + 1) (nI 0) (nI 0) (nI 0) (nI 0) (nI 0) a1 a2 a3 a4 a5 a6 a7 a8 a9 a10
  refine ps_sOpen 0 (by omega) (m := 0) (fi := 0) (f := f0) (by omega) (Or.inl ⟨rfl, rfl, rfl⟩) s0 z0 h30 (by omega) (by omega) (by omega) (by omega) (by omega) ?_
  refine ps_sWord a (by omega) (by omega) (by omega) s1 z1 (by omega) (by omega) ?_
  refine ps_sBreak (max a c1) (by omega) (m := 0 + i) (f := f0) (r' := r1) (col' := c1) (by omega) (Or.inr ⟨0, 0, rfl, by omega, rfl, by omega, rfl, rfl, k0⟩) s2 z2 (by omega) (by omega) (by omega) ?_
  refine ps_sOpen (max a c1) (by omega) (m := 0 + i) (fi := f0) (f := f3) (by omega) (Or.inr ⟨0, 0, rfl, by omega, rfl, by omega, rfl, rfl, k0⟩) s3 z3 h33 (by omega) (by omega) (by omega) (by omega) (by omega) ?_
  refine ps_sWord (max a (c1 + b)) (by omega) (by omega) (by omega) s4 z4 (by omega) (by omega) ?_
  refine ps_sBreak (max a (max (c1 + b) c2)) (by omega) (m := 0 + i + j) (f := f3) (r' := r2) (col' := c2) (by omega) (Or.inr ⟨1, 3, rfl, by omega, rfl, by omega, rfl, rfl, k3⟩) s5 z5 (by omega) (by omega) (by omega) ?_
  refine ps_sWord (max a (max (c1 + b) (c2 + c))) (by omega) (by omega) (by omega) s6 z6 (by omega) (by omega) ?_
  refine ps_sClose (max a (max (c1 + b) (c2 + c))) (by omega) (by omega) (by omega) s7 (by omega) (by omega) ?_
  refine ps_sClose (max a (max (c1 + b) (c2 + c))) (by omega) (by omega) (by omega) s8 (by omega) (by omega) ?_
  refine ps_sBreak (max a (max (c1 + b) (c2 + c))) (by omega) (m := 0) (f := 0) (r' := r2 + 1) (col' := 0) (by omega) (Or.inl ⟨rfl, rfl, rfl⟩) s9 z9 (by omega) (by omega) (by omega) ?_
  refine ps_sWord (max (max a (max (c1 + b) (c2 + c))) d) (by omega) (by omega) (by omega) s10 z10 (by omega) (by omega) ?_
  refine pk_le 11 11 (fun _ => ?_) (fun y => absurd y (by omega))
  exact H _ _ _ _ _ _ rfl rfl rfl rfl rfl rfl (show nI (0 + a) = nI a by rw [Nat.zero_add]) rfl rfl rfl rfl rfl rfl
theorem ps_layOut {a b c d i j w : Nat} (hb : ps_bd a b c d i j) (hs : ps_src a b c d i j a1 a2) (h30 : a3 0 = nI (a + b + c + 2)) (h33 : a3 3 = nI (b + 1 + c)) (hw : w ≤ 100)
    (H : ∀ (lr gc : Int32) (b5 b7 b8 b9 b10 : Nat → Int32), ps_laid a b c d i j w lr gc b7 b8 b9 → post (pw, nI 11, un, me, la, lr, gc, a1, a2, a3, a4, b5, a6, b7, b8, b9, b10)) :
    wpX_layOut post (pw, nI 11, un, me, la, lr, gc, a1, a2, a3, a4, a5, a6, a7, a8, a9, a10) (nI w) := by
  have hb' := hb
  obtain ⟨p1, p2, p3, p4, p5, p6, p7, p8, p9, p10⟩ := hb'
  rcases Nat.lt_or_ge w (a + b + c + 2) with ho | ho
  · rcases Nat.lt_or_ge w (i + b + 1 + c) with hi | hi
    · refine ps_chain (f0 := 0) (f3 := 0) (r1 := 1) (c1 := i) (r2 := 2) (c2 := i + j) hb hs h30 h33 hw (by omega) (by omega) (by omega) (by omega) ?_
      intro g b5 b7 b8 b9 b10 eg e1 e2 e3 e4 e5 e6 e7 e8 e9 e10 e11 e12
      refine H _ _ _ _ _ _ _ ⟨?_, ?_, e1, ?_, ?_, ?_, ?_, e6, ?_, ?_, ?_, e10, ?_, ?_⟩
      all_goals simp only [ps_33 ho hi]
      all_goals first | assumption | exact congrArg nI (by omega)
    · refine ps_chain (f0 := 0) (f3 := 1) (r1 := 1) (c1 := i) (r2 := 1) (c2 := i + b + 1) hb hs h30 h33 hw (by omega) (by omega) (by omega) (by omega) ?_
      intro g b5 b7 b8 b9 b10 eg e1 e2 e3 e4 e5 e6 e7 e8 e9 e10 e11 e12
      refine H _ _ _ _ _ _ _ ⟨?_, ?_, e1, ?_, ?_, ?_, ?_, e6, ?_, ?_, ?_, e10, ?_, ?_⟩
      all_goals simp only [ps_32 ho hi]
      all_goals first | assumption | exact congrArg nI (by omega)
  · refine ps_chain (f0 := 1) (f3 := 1) (r1 := 0) (c1 := a + 1) (r2 := 0) (c2 := a + 1 + b + 1) hb hs h30 h33 hw (by omega) (by omega) (by omega) (by omega) ?_
    intro g b5 b7 b8 b9 b10 eg e1 e2 e3 e4 e5 e6 e7 e8 e9 e10 e11 e12
    refine H _ _ _ _ _ _ _ ⟨?_, ?_, e1, ?_, ?_, ?_, ?_, e6, ?_, ?_, ?_, e10, ?_, ?_⟩
    all_goals simp only [ps_31 ho]
    all_goals first | assumption | exact congrArg nI (by omega) | (rw [e8]; exact congrArg nI (by omega)) | (rw [e9]; exact congrArg nI (by omega))
end
end
section
/-! measure: how far the two groups reach -/
section
variable {post : St2 → Prop} {x pw pc un me la lr gc : Int32} {a1 a2 a3 a4 a5 a6 a7 a8 a9 a10 : Nat → Int32}
theorem ps_settleS {n k q N : Nat} (hk : k < N) (hN : N ≤ 60) (h6 : a6 k = nI q) (hq : q < 60)
    (h : wX_settle_2 post (nI N) x pw pc un me la lr gc n (nI (k + 1)) a1 a2 (upd a3 q (x - a4 q)) a4 a5 a6 a7 a8 a9 a10) :
    wX_settle_2 post (nI N) x pw pc un me la lr gc (n + 1) (nI k) a1 a2 a3 a4 a5 a6 a7 a8 a9 a10 := by
  refine pk_le N k (fun y => absurd y (by omega)) (fun _ => ⟨pk_in k 60 (by omega), pk_in k 60 (by omega), ?_⟩)
  rw [nI_clamp (show k < 2 ^ 31 by omega), h6]
  exact ⟨pk_in q 60 hq, pk_in q 60 hq, nm_r (e' := upd a3 q (x - a4 q)) (by rw [nI_clamp (by omega)]) (nm_r (nI_1 k) h)⟩
theorem ps_settle0 (h : post (pw, pc, un, me, la, lr, gc, a1, a2, a3, a4, a5, a6, a7, a8, a9, a10)) : wpX_settle post (pw, pc, un, me, la, lr, gc, a1, a2, a3, a4, a5, a6, a7, a8, a9, a10) (nI 0) x :=
  ⟨1, pk_le 0 0 (fun _ => h) (fun y => absurd y (by omega))⟩
theorem ps_settle2 {q0 q1 : Nat} (h0 : a6 0 = nI q0) (h1 : a6 1 = nI q1) (hq0 : q0 < 60) (hq1 : q1 < 60)
    (h : post (pw, pc, un, me, la, lr, gc, a1, a2, upd (upd a3 q0 (x - a4 q0)) q1 (x - a4 q1), a4, a5, a6, a7, a8, a9, a10)) : wpX_settle post (pw, pc, un, me, la, lr, gc, a1, a2, a3, a4, a5, a6, a7, a8, a9, a10) (nI 2) x := by
  refine ⟨3, ?_⟩
  show wX_settle_2 post (nI 2) x pw pc un me la lr gc (2 + 1) (nI 0) a1 a2 a3 a4 a5 a6 a7 a8 a9 a10
  refine ps_settleS (q := q0) (by omega) (by omega) h0 hq0 ?_
  refine ps_settleS (q := q1) (by omega) (by omega) h1 hq1 ?_
  exact pk_le 2 2 (fun _ => h) (fun y => absurd y (by omega))
theorem ps_mOpen {n t e q k : Nat} (hk : k < 11) (he : e < 12) (h1 : a1 k = 2)
    (h : wX_measure_22 post n (nI t) (nI (e + 1)) (nI q) (nI (k + 1)) pw (nI 11) un me la lr gc a1 a2 a3 (upd a4 k (nI t)) (upd a5 e (nI k)) a6 a7 a8 a9 a10) :
    wX_measure_22 post (n + 1) (nI t) (nI e) (nI q) (nI k) pw (nI 11) un me la lr gc a1 a2 a3 a4 a5 a6 a7 a8 a9 a10 := by
  refine pk_le 11 k (fun y => absurd y (by omega)) (fun _ => ⟨pk_in k 60 (by omega), ?_⟩)
  rw [nI_clamp (show k < 2 ^ 31 by omega)]
  exact br_t h1 ⟨pk_in k 60 (by omega), nm_e ⟨pk_in e 12 he, nm_r (e' := upd a5 e (nI k)) (by rw [nI_clamp (by omega)]) (nm_r (nI_1 e) (nm_r (nI_1 k) h))⟩⟩
theorem ps_mClose {n t e q k : Nat} (hk : k < 11) (he : e < 12) (hq : q < 60) (h1 : a1 k = 3)
    (h : wX_measure_22 post n (nI t) (nI e) (nI (q + 1)) (nI (k + 1)) pw (nI 11) un me la lr gc a1 a2 a3 a4 a5 (upd a6 q (a5 e)) a7 a8 a9 a10) :
    wX_measure_22 post (n + 1) (nI t) (nI (e + 1)) (nI q) (nI k) pw (nI 11) un me la lr gc a1 a2 a3 a4 a5 a6 a7 a8 a9 a10 := by
  refine pk_le 11 k (fun y => absurd y (by omega)) (fun _ => ⟨pk_in k 60 (by omega), ?_⟩)
  rw [nI_clamp (show k < 2 ^ 31 by omega), h1]
  exact br_f (by decide) ⟨pk_in k 60 (by omega), br_t rfl (nm_r (pk_m1 e) ⟨pk_in e 12 he, pk_in q 60 hq, nm_r (e' := upd a6 q (a5 e)) (by rw [nI_clamp (show q < 2 ^ 31 by omega), nI_clamp (show e < 2 ^ 31 by omega)]) (nm_r (nI_1 q) (nm_r (nI_1 k) h))⟩)⟩
theorem ps_m115 {n t e q k s : Nat} (hk : k < 60) (h2 : a2 k = nI s)
    (h : wX_measure_22 post n (nI (t + s)) (nI e) (nI q) (nI (k + 1)) pw pc un me la lr gc a1 a2 a3 a4 a5 a6 a7 a8 a9 a10) :
    wX_measure_115 post (wX_measure_22 post n) (nI t) (nI e) (nI q) (nI k) pw pc un me la lr gc a1 a2 a3 a4 a5 a6 a7 a8 a9 a10 := by
  unfold wX_measure_115
  exact ⟨pk_in k 60 hk, nm_r (e' := nI (t + s)) (by rw [nI_clamp (by omega), h2, nI_add]) (nm_r (nI_1 k) h)⟩
theorem ps_mWord {n t e q k s : Nat} (hk : k < 11) (h1 : a1 k = 0) (h2 : a2 k = nI s)
    (h : wX_measure_22 post n (nI (t + s)) (nI e) (nI q) (nI (k + 1)) pw (nI 11) un me la lr gc a1 a2 a3 a4 a5 a6 a7 a8 a9 a10) :
    wX_measure_22 post (n + 1) (nI t) (nI e) (nI q) (nI k) pw (nI 11) un me la lr gc a1 a2 a3 a4 a5 a6 a7 a8 a9 a10 := by
  refine pk_le 11 k (fun y => absurd y (by omega)) (fun _ => ⟨pk_in k 60 (by omega), ?_⟩)
  rw [nI_clamp (show k < 2 ^ 31 by omega), h1]
  exact br_f (by decide) ⟨pk_in k 60 (by omega), br_f (by decide) ⟨pk_in k 60 (by omega), br_f (by decide) (ps_m115 (by omega) h2 h)⟩⟩
theorem ps_mBreak0 {n t e k s : Nat} (hk : k < 11) (h1 : a1 k = 1) (h2 : a2 k = nI s)
    (h : wX_measure_22 post n (nI (t + s)) (nI e) (nI 0) (nI (k + 1)) pw (nI 11) un me la lr gc a1 a2 a3 a4 a5 a6 a7 a8 a9 a10) :
    wX_measure_22 post (n + 1) (nI t) (nI e) (nI 0) (nI k) pw (nI 11) un me la lr gc a1 a2 a3 a4 a5 a6 a7 a8 a9 a10 := by
  refine pk_le 11 k (fun y => absurd y (by omega)) (fun _ => ⟨pk_in k 60 (by omega), ?_⟩)
  rw [nI_clamp (show k < 2 ^ 31 by omega), h1]
  exact br_f (by decide) ⟨pk_in k 60 (by omega), br_f (by decide) ⟨pk_in k 60 (by omega), br_t rfl (ps_settle0 (ps_m115 (q := 0) (by omega) h2 h))⟩⟩
theorem ps_mBreak2 {n t e k s q0 q1 : Nat} (hk : k < 11) (h1 : a1 k = 1) (h2 : a2 k = nI s) (h60 : a6 0 = nI q0) (h61 : a6 1 = nI q1) (hq0 : q0 < 60) (hq1 : q1 < 60)
    (h : wX_measure_22 post n (nI (t + s)) (nI e) (nI 0) (nI (k + 1)) pw (nI 11) un me la lr gc a1 a2 (upd (upd a3 q0 (nI t - a4 q0)) q1 (nI t - a4 q1)) a4 a5 a6 a7 a8 a9 a10) :
    wX_measure_22 post (n + 1) (nI t) (nI e) (nI 2) (nI k) pw (nI 11) un me la lr gc a1 a2 a3 a4 a5 a6 a7 a8 a9 a10 := by
  refine pk_le 11 k (fun y => absurd y (by omega)) (fun _ => ⟨pk_in k 60 (by omega), ?_⟩)
  rw [nI_clamp (show k < 2 ^ 31 by omega), h1]
  exact br_f (by decide) ⟨pk_in k 60 (by omega), br_f (by decide) ⟨pk_in k 60 (by omega), br_t rfl (ps_settle2 h60 h61 hq0 hq1 (ps_m115 (q := 0) (by omega) h2 h))⟩⟩
theorem ps_mEnd {n t : Nat} (h : post (pw, nI 11, un, me, la, lr, gc, a1, a2, a3, a4, a5, a6, a7, a8, a9, a10)) :
    wX_measure_22 post (n + 1) (nI t) (nI 0) (nI 0) (nI 11) pw (nI 11) un me la lr gc a1 a2 a3 a4 a5 a6 a7 a8 a9 a10 :=
  pk_le 11 11 (fun _ => ps_settle0 ⟨1, pk_le 0 0 (fun _ => h) (fun y => absurd y (by omega))⟩) (fun y => absurd y (by omega))
theorem ps_measure0 {a b c d i j : Nat} (hs : ps_src a b c d i j a1 a2)
    (H : ∀ b3 b4 b5 b6 : Nat → Int32, b3 0 = nI (a + b + c + 2) → b3 3 = nI (b + 1 + c) → post (pw, nI 11, un, 1, la, lr, gc, a1, a2, b3, b4, b5, b6, a7, a8, a9, a10)) :
    wpX_measure post (pw, nI 11, un, 0, la, lr, gc, a1, a2, a3, a4, a5, a6, a7, a8, a9, a10) := by
  obtain ⟨s0, s1, s2, s3, s4, s5, s6, s7, s8, s9, s10, z0, z1, z2, z3, z4, z5, z6, z9, z10⟩ := hs
  refine br_t rfl ⟨12, ?_⟩
  show wX_measure_22 post (11 + 1) (nI 0) (nI 0) (nI 0) (nI 0) pw (nI 11) un 1 la lr gc a1 a2 a3 a4 a5 a6 a7 a8 a9 a10
  refine ps_mOpen (by omega) (by omega) s0 ?_
  refine ps_mWord (by omega) s1 z1 ?_
  refine ps_mBreak0 (by omega) s2 z2 ?_
  refine ps_mOpen (by omega) (by omega) s3 ?_
  refine ps_mWord (by omega) s4 z4 ?_
  refine ps_mBreak0 (by omega) s5 z5 ?_
  refine ps_mWord (by omega) s6 z6 ?_
  refine ps_mClose (by omega) (by omega) (by omega) s7 ?_
  refine ps_mClose (by omega) (by omega) (by omega) s8 ?_
  refine ps_mBreak2 (q0 := 3) (q1 := 0) (by omega) s9 z9 rfl rfl (by omega) (by omega) ?_
  refine ps_mWord (by omega) s10 z10 ?_
  refine ps_mEnd ?_
  refine H _ _ _ _ ?_ ?_
  · show nI (0 + a + 1 + b + 1 + c) - nI 0 = nI (a + b + c + 2)
    rw [pk_sub (by omega)]
    exact congrArg nI (by omega)
  · show nI (0 + a + 1 + b + 1 + c) - nI (0 + a + 1) = nI (b + 1 + c)
    rw [pk_sub (by omega)]
    exact congrArg nI (by omega)
theorem ps_measure {a b c d i j : Nat} (hs : ps_src a b c d i j a1 a2) (hm : me = 0 ∨ (me = 1 ∧ a3 0 = nI (a + b + c + 2) ∧ a3 3 = nI (b + 1 + c)))
    (H : ∀ b3 b4 b5 b6 : Nat → Int32, b3 0 = nI (a + b + c + 2) → b3 3 = nI (b + 1 + c) → post (pw, nI 11, un, 1, la, lr, gc, a1, a2, b3, b4, b5, b6, a7, a8, a9, a10)) :
    wpX_measure post (pw, nI 11, un, me, la, lr, gc, a1, a2, a3, a4, a5, a6, a7, a8, a9, a10) := by
  rcases hm with rfl | ⟨rfl, e0, e3⟩
  · exact ps_measure0 hs H
  · exact br_f (by decide) (H a3 a4 a5 a6 e0 e3)
end
end
section
/-! the object as a picture: ps_ok between the calls, ps_ld behind prepare -/
def ps_ok (a b c d i j w : Nat) (u : St2) : Prop := match u with
  | (pw, pc, un, me, la, lr, gc, a1, a2, a3, a4, a5, a6, a7, a8, a9, a10) => pw = nI w ∧ pc = nI 11 ∧ ps_src a b c d i j a1 a2 ∧ (me = 0 ∨ (me = 1 ∧ a3 0 = nI (a + b + c + 2) ∧ a3 3 = nI (b + 1 + c))) ∧ (la = 0 ∨ (la = 1 ∧ ps_laid a b c d i j w lr gc a7 a8 a9))
def ps_ld (a b c d i j w : Nat) (u : St2) : Prop := match u with
  | (pw, pc, un, me, la, lr, gc, a1, a2, a3, a4, a5, a6, a7, a8, a9, a10) => pw = nI w ∧ pc = nI 11 ∧ ps_src a b c d i j a1 a2 ∧ (me = 0 ∨ (me = 1 ∧ a3 0 = nI (a + b + c + 2) ∧ a3 3 = nI (b + 1 + c))) ∧ la = 1 ∧ ps_laid a b c d i j w lr gc a7 a8 a9
theorem ps_R (a b c i w : Nat) : (a + b + c + 2 ≤ w ∧ ps_3 a b c i w 1 2 3 = 1) ∨ (w < a + b + c + 2 ∧ i + b + 1 + c ≤ w ∧ ps_3 a b c i w 1 2 3 = 2) ∨ (w < a + b + c + 2 ∧ w < i + b + 1 + c ∧ ps_3 a b c i w 1 2 3 = 3) := by
  rcases Nat.lt_or_ge w (a + b + c + 2) with ho | ho
  · rcases Nat.lt_or_ge w (i + b + 1 + c) with hi | hi
    · exact Or.inr (Or.inr ⟨ho, hi, ps_33 ho hi⟩)
    · exact Or.inr (Or.inl ⟨ho, hi, ps_32 ho hi⟩)
  · exact Or.inl ⟨ho, ps_31 ho⟩
section
variable {a b c d i j w : Nat}
theorem ps_prep {post : St2 → Prop} {u : St2} (hb : ps_bd a b c d i j) (hw : w ≤ 100) (hu : ps_ok a b c d i j w u) (H : ∀ u', ps_ld a b c d i j w u' → post u') : wpX_prepare post u := by
  obtain ⟨pw, pc, un, me, la, lr, gc, a1, a2, a3, a4, a5, a6, a7, a8, a9, a10⟩ := u
  obtain ⟨rfl, rfl, hs, hm, hl⟩ := hu
  rcases hl with rfl | ⟨rfl, hl⟩
  · exact br_t rfl (ps_measure hs hm (fun b3 b4 b5 b6 e0 e3 => ps_layOut hb hs e0 e3 hw (fun lr' gc' c5 c7 c8 c9 c10 hl => H _ ⟨rfl, rfl, hs, Or.inr ⟨rfl, e0, e3⟩, rfl, hl⟩)))
  · exact br_f (by decide) (H _ ⟨rfl, rfl, hs, hm, rfl, hl⟩)
theorem ps_row {post : Int32 → St2 → Prop} {u : St2} (k R : Nat) (hb : ps_bd a b c d i j) (hw : w ≤ 100) (hu : ps_ok a b c d i j w u) (hk : k < 11)
    (hr : ∀ lr gc b7 b8 b9, ps_laid a b c d i j w lr gc b7 b8 b9 → b7 k = nI R) (H : ∀ u', ps_ok a b c d i j w u' → post (nI R) u') : wpX_row post u (nI k) := by
  obtain ⟨pw, pc, un, me, la, lr, gc, a1, a2, a3, a4, a5, a6, a7, a8, a9, a10⟩ := u
  have hu2 := hu
  obtain ⟨_, rfl, _⟩ := hu2
  refine br_f (nI_pos (by omega)) (pk_lt k 11 (fun _ => ps_prep hb hw hu (fun u' h' => ?_)) (fun y => absurd y (by omega)))
  obtain ⟨q1, q2, q3, q4, q5, q6, q7, q8, q9, q10, q11, q12, q13, q14, q15, q16, q17⟩ := u'
  obtain ⟨e1, e2, hs, hm, el, hl⟩ := h'
  refine And.intro (pk_in k 60 (by omega)) ?_
  rw [nI_clamp (show k < 2 ^ 31 by omega), hr _ _ _ _ _ hl]
  exact H _ ⟨e1, e2, hs, hm, Or.inr ⟨el, hl⟩⟩
theorem ps_col {post : Int32 → St2 → Prop} {u : St2} (k R : Nat) (hb : ps_bd a b c d i j) (hw : w ≤ 100) (hu : ps_ok a b c d i j w u) (hk : k < 11)
    (hr : ∀ lr gc b7 b8 b9, ps_laid a b c d i j w lr gc b7 b8 b9 → b8 k = nI R) (H : ∀ u', ps_ok a b c d i j w u' → post (nI R) u') : wpX_column post u (nI k) := by
  obtain ⟨pw, pc, un, me, la, lr, gc, a1, a2, a3, a4, a5, a6, a7, a8, a9, a10⟩ := u
  have hu2 := hu
  obtain ⟨_, rfl, _⟩ := hu2
  refine br_f (nI_pos (by omega)) (pk_lt k 11 (fun _ => ps_prep hb hw hu (fun u' h' => ?_)) (fun y => absurd y (by omega)))
  obtain ⟨q1, q2, q3, q4, q5, q6, q7, q8, q9, q10, q11, q12, q13, q14, q15, q16, q17⟩ := u'
  obtain ⟨e1, e2, hs, hm, el, hl⟩ := h'
  refine And.intro (pk_in k 60 (by omega)) ?_
  rw [nI_clamp (show k < 2 ^ 31 by omega), hr _ _ _ _ _ hl]
  exact H _ ⟨e1, e2, hs, hm, Or.inr ⟨el, hl⟩⟩
theorem ps_rowN {post : Int32 → St2 → Prop} {u : St2} (hu : ps_ok a b c d i j w u) (H : ∀ u', ps_ok a b c d i j w u' → post (-1) u') : wpX_row post u (nI 11) := by
  obtain ⟨pw, pc, un, me, la, lr, gc, a1, a2, a3, a4, a5, a6, a7, a8, a9, a10⟩ := u
  have hu2 := hu
  obtain ⟨_, rfl, _⟩ := hu2
  exact br_f (nI_pos (by omega)) (pk_lt 11 11 (fun y => absurd y (by omega)) (fun _ => H _ hu))
theorem ps_colN {post : Int32 → St2 → Prop} {u : St2} (hu : ps_ok a b c d i j w u) (H : ∀ u', ps_ok a b c d i j w u' → post (-1) u') : wpX_column post u (-1) := by
  obtain ⟨pw, pc, un, me, la, lr, gc, a1, a2, a3, a4, a5, a6, a7, a8, a9, a10⟩ := u
  exact br_t ps_m1lt (H _ hu)
theorem ps_flat {post : Int32 → St2 → Prop} {u : St2} (k f : Nat) (hb : ps_bd a b c d i j) (hw : w ≤ 100) (hu : ps_ok a b c d i j w u) (hk : k < 11)
    (h1 : ∀ b1 b2, ps_src a b c d i j b1 b2 → b1 k = 2) (hf : f < 2)
    (hr : ∀ lr gc b7 b8 b9, ps_laid a b c d i j w lr gc b7 b8 b9 → b9 k = nI f) (H : ∀ u', ps_ok a b c d i j w u' → post (nI f) u') : wpX_flat post u (nI k) := by
  obtain ⟨pw, pc, un, me, la, lr, gc, a1, a2, a3, a4, a5, a6, a7, a8, a9, a10⟩ := u
  have hu2 := hu
  obtain ⟨_, rfl, hs2, _⟩ := hu2
  refine br_f (nI_pos (by omega)) (pk_le 11 k (fun y => absurd y (by omega)) (fun _ => ⟨pk_in k 60 (by omega), br_t (by rw [nI_clamp (by omega)]; exact h1 _ _ hs2) (ps_prep hb hw hu (fun u' h' => ?_))⟩))
  obtain ⟨q1, q2, q3, q4, q5, q6, q7, q8, q9, q10, q11, q12, q13, q14, q15, q16, q17⟩ := u'
  obtain ⟨e1, e2, hs, hm, el, hl⟩ := h'
  refine And.intro (pk_in k 60 (by omega)) ?_
  rw [nI_clamp (show k < 2 ^ 31 by omega), hr _ _ _ _ _ hl]
  have h := H _ (show ps_ok a b c d i j w (q1, q2, q3, q4, q5, q6, q7, q8, q9, q10, q11, q12, q13, q14, q15, q16, q17) from ⟨e1, e2, hs, hm, Or.inr ⟨el, hl⟩⟩)
  refine pk_eq f 0 (fun y => ?_) (fun y => ?_)
  · rw [y] at h
    exact h
  · rw [show f = 1 by omega] at h
    exact h
theorem ps_flatN {post : Int32 → St2 → Prop} {u : St2} (hu : ps_ok a b c d i j w u) (H : ∀ u', ps_ok a b c d i j w u' → post (-1) u') : wpX_flat post u (nI 1) := by
  obtain ⟨pw, pc, un, me, la, lr, gc, a1, a2, a3, a4, a5, a6, a7, a8, a9, a10⟩ := u
  have hu2 := hu
  obtain ⟨_, rfl, hs2, _⟩ := hu2
  refine br_f (nI_pos (by omega)) (pk_le 11 1 (fun y => absurd y (by omega)) (fun _ => ⟨pk_in 1 60 (by omega), br_f ?_ (H _ hu)⟩))
  rw [nI_clamp (show 1 < 2 ^ 31 by omega), hs2.2.1]
  decide
theorem ps_rows {post : Int32 → St2 → Prop} {u : St2} (R : Nat) (hb : ps_bd a b c d i j) (hw : w ≤ 100) (hu : ps_ok a b c d i j w u)
    (hr : ps_3 a b c i w 1 2 3 + 1 = R) (H : ∀ u', ps_ok a b c d i j w u' → post (nI R) u') : wpX_rows post u := by
  obtain ⟨pw, pc, un, me, la, lr, gc, a1, a2, a3, a4, a5, a6, a7, a8, a9, a10⟩ := u
  unfold wpX_rows
  refine ps_prep hb hw hu (fun u' h' => ?_)
  obtain ⟨q1, q2, q3, q4, q5, q6, q7, q8, q9, q10, q11, q12, q13, q14, q15, q16, q17⟩ := u'
  obtain ⟨e1, e2, hs, hm, el, hl⟩ := h'
  have h := H _ (show ps_ok a b c d i j w (q1, q2, q3, q4, q5, q6, q7, q8, q9, q10, q11, q12, q13, q14, q15, q16, q17) from ⟨e1, e2, hs, hm, Or.inr ⟨el, hl⟩⟩)
  have e : q6 + 1 = nI R := by rw [hl.1, nI_1, hr]
  rw [← e] at h
  exact h
theorem ps_widest {post : Int32 → St2 → Prop} {u : St2} (G : Nat) (hb : ps_bd a b c d i j) (hw : w ≤ 100) (hu : ps_ok a b c d i j w u)
    (hr : max (max a (ps_3 a b c i w (a + b + c + 2) (i + b + 1 + c) (max (i + b) (i + j + c)))) d = G) (H : ∀ u', ps_ok a b c d i j w u' → post (nI G) u') : wpX_widest post u := by
  obtain ⟨pw, pc, un, me, la, lr, gc, a1, a2, a3, a4, a5, a6, a7, a8, a9, a10⟩ := u
  unfold wpX_widest
  refine ps_prep hb hw hu (fun u' h' => ?_)
  obtain ⟨q1, q2, q3, q4, q5, q6, q7, q8, q9, q10, q11, q12, q13, q14, q15, q16, q17⟩ := u'
  obtain ⟨e1, e2, hs, hm, el, hl⟩ := h'
  have h := H _ (show ps_ok a b c d i j w (q1, q2, q3, q4, q5, q6, q7, q8, q9, q10, q11, q12, q13, q14, q15, q16, q17) from ⟨e1, e2, hs, hm, Or.inr ⟨el, hl⟩⟩)
  have e : q7 = nI G := by rw [hl.2.1, hr]
  rw [← e] at h
  exact h
theorem ps_width {post : St2 → Prop} {u : St2} (v v' : Nat) (hv : (1 ≤ v ∧ v ≤ 100 ∧ v' = v) ∨ (v = 0 ∧ v' = 1)) (hu : ps_ok a b c d i j w u) (H : ∀ u', ps_ok a b c d i j v' u' → post u') : wpX_width post u (nI v) := by
  obtain ⟨pw, pc, un, me, la, lr, gc, a1, a2, a3, a4, a5, a6, a7, a8, a9, a10⟩ := u
  obtain ⟨_, e2, hs, hm, _⟩ := hu
  refine pk_le 1 v (fun y => pk_le v 100 (fun y2 => H _ ⟨?_, e2, hs, hm, Or.inl rfl⟩) (fun y2 => absurd y2 (by omega))) (fun y => H _ ⟨?_, e2, hs, hm, Or.inl rfl⟩)
  · exact congrArg nI (by omega)
  · rw [show v' = 1 by omega]
    rfl
theorem ps_leastL {post : Int32 → St2 → Prop} {pw un : Int32} {a1 a2 a3 a4 a6 : Nat → Int32} {k t : Nat} (hb : ps_bd a b c d i j) (hs : ps_src a b c d i j a1 a2) (h30 : a3 0 = nI (a + b + c + 2)) (h33 : a3 3 = nI (b + 1 + c))
    (hk : k ≤ 10) (ht : t ≤ 101) (hlo : ∀ v, 1 ≤ v → v < t → k < ps_3 a b c i v 1 2 3 + 1) (hhi : t ≤ 100 → ps_3 a b c i t 1 2 3 + 1 ≤ k)
    (H : ∀ (lr gc : Int32) (b5 b7 b8 b9 b10 : Nat → Int32), post (nI t) (pw, nI 11, un, 1, 0, lr, gc, a1, a2, a3, a4, b5, a6, b7, b8, b9, b10)) :
    ∀ (m v : Nat) (lr gc : Int32) (a5 a7 a8 a9 a10 : Nat → Int32), 1 ≤ v → v + m = t → wX_leastWidth_11 post (nI k) (m + 1) (nI v) pw (nI 11) un 1 0 lr gc a1 a2 a3 a4 a5 a6 a7 a8 a9 a10 := by
  intro m
  induction m with
  | zero =>
    intro v lr gc a5 a7 a8 a9 a10 hv e
    have e' : v = t := by omega
    subst e'
    refine pk_lt 100 v (fun y => ?_) (fun y => ?_)
    · have h := H lr gc a5 a7 a8 a9 a10
      rw [show v = 101 by omega] at h
      exact h
    · refine ps_layOut hb hs h30 h33 (by omega) (fun lr' gc' c5 c7 c8 c9 c10 hl => ?_)
      have hR := ps_R a b c i v
      exact pk_lt k (ps_3 a b c i v 1 2 3 + 1) (fun z => absurd z (by have := hhi (by omega); omega)) (fun z => H _ _ _ _ _ _ _) rfl (by rw [hl.1, nI_1]) (by omega) (by omega)
  | succ m ih =>
    intro v lr gc a5 a7 a8 a9 a10 hv e
    refine pk_lt 100 v (fun y => absurd y (by omega)) (fun y => ?_)
    refine ps_layOut hb hs h30 h33 (by omega) (fun lr' gc' c5 c7 c8 c9 c10 hl => ?_)
    have hR := ps_R a b c i v
    exact pk_lt k (ps_3 a b c i v 1 2 3 + 1) (fun z => nm_r (nI_1 v) (ih (v + 1) _ _ _ _ _ _ _ (by omega) (by omega))) (fun z => absurd z (by have := hlo v hv (by omega); omega)) rfl (by rw [hl.1, nI_1]) (by omega) (by omega)
theorem ps_least {post : Int32 → St2 → Prop} {u : St2} (k t : Nat) (hb : ps_bd a b c d i j) (hu : ps_ok a b c d i j w u) (hk : k ≤ 10) (ht0 : 1 ≤ t) (ht : t ≤ 101)
    (hlo : ∀ v, 1 ≤ v → v < t → k < ps_3 a b c i v 1 2 3 + 1) (hhi : t ≤ 100 → ps_3 a b c i t 1 2 3 + 1 ≤ k)
    (H : ∀ u', ps_ok a b c d i j w u' → post (nI t) u') : wpX_leastWidth post u (nI k) := by
  obtain ⟨pw, pc, un, me, la, lr, gc, a1, a2, a3, a4, a5, a6, a7, a8, a9, a10⟩ := u
  obtain ⟨e1, rfl, hs, hm, _⟩ := hu
  refine ps_measure hs hm (fun b3 b4 b5 b6 e0 e3 => ⟨t - 1 + 1, ?_⟩)
  exact ps_leastL hb hs e0 e3 hk ht hlo hhi (fun lr' gc' c5 c7 c8 c9 c10 => H _ ⟨e1, rfl, hs, Or.inr ⟨rfl, e0, e3⟩, Or.inl rfl⟩) (t - 1) 1 _ _ _ _ _ _ _ (by omega) (by omega)
end
end
section
/-! the calls that add pieces -/
section
variable {post : Int32 → St2 → Prop} {pw un me la lr gc : Int32} {a1 a2 a3 a4 a5 a6 a7 a8 a9 a10 : Nat → Int32} {k l v : Nat}
theorem ps_add {s x : Int32} (hk : k < 60) (h : post (nI (k + 1)) (pw, nI (k + 1), un, 0, 0, lr, gc, upd a1 k s, upd a2 k x, a3, a4, a5, a6, a7, a8, a9, a10)) :
    wpX_addPiece post (pw, nI k, un, me, la, lr, gc, a1, a2, a3, a4, a5, a6, a7, a8, a9, a10) s x :=
  pk_lt k 60 (fun _ => ⟨pk_in k 60 hk, nm_r (e' := upd a1 k s) (by rw [nI_clamp (by omega)]) ⟨pk_in k 60 hk, nm_r (e' := upd a2 k x) (by rw [nI_clamp (by omega)]) (nm_r (nI_1 k) h)⟩⟩) (fun y => absurd y (by omega))
theorem ps_word (hk : k < 60) (h1 : 1 ≤ l) (h2 : l ≤ 20) (h : post (nI (k + 1)) (pw, nI (k + 1), un, 0, 0, lr, gc, upd a1 k 0, upd a2 k (nI l), a3, a4, a5, a6, a7, a8, a9, a10)) :
    wpX_word post (pw, nI k, un, me, la, lr, gc, a1, a2, a3, a4, a5, a6, a7, a8, a9, a10) (nI l) :=
  pk_lt l 1 (fun y => absurd y (by omega)) (fun _ => pk_le l 20 (fun _ => ps_add hk h) (fun y => absurd y (by omega)))
theorem ps_lb (hk : k < 60) (h : post (nI (k + 1)) (pw, nI (k + 1), un, 0, 0, lr, gc, upd a1 k 1, upd a2 k 1, a3, a4, a5, a6, a7, a8, a9, a10)) :
    wpX_lineBreak post (pw, nI k, un, me, la, lr, gc, a1, a2, a3, a4, a5, a6, a7, a8, a9, a10) := by
  unfold wpX_lineBreak
  exact ps_add hk h
theorem ps_op (hk : k < 60) (hl : l ≤ 8) (hv : v < 12) (h : post (nI (k + 1)) (pw, nI (k + 1), nI (v + 1), 0, 0, lr, gc, upd a1 k 2, upd a2 k (nI l), a3, a4, a5, a6, a7, a8, a9, a10)) :
    wpX_open post (pw, nI k, nI v, me, la, lr, gc, a1, a2, a3, a4, a5, a6, a7, a8, a9, a10) (nI l) :=
  br_f (nI_pos (by omega)) (pk_lt 8 l (fun y => absurd y (by omega)) (fun _ => pk_lt v 12 (fun _ => ps_add hk (br_t (nI_pos' (by omega)) (nm_r (nI_1 v) h))) (fun y => absurd y (by omega))))
theorem ps_cl (hk : k < 60) (hv : v < 12) (h : post (nI (k + 1)) (pw, nI (k + 1), nI v, 0, 0, lr, gc, upd a1 k 3, upd a2 k 0, a3, a4, a5, a6, a7, a8, a9, a10)) :
    wpX_close post (pw, nI k, nI (v + 1), me, la, lr, gc, a1, a2, a3, a4, a5, a6, a7, a8, a9, a10) :=
  br_f (nI_ne0 (by omega) (by omega)) (ps_add hk (br_t (nI_pos' (by omega)) (nm_r (nI_pred v) h)))
theorem ps_cl0 {x : Int32} (h : post (-1) (pw, x, nI 0, me, la, lr, gc, a1, a2, a3, a4, a5, a6, a7, a8, a9, a10)) :
    wpX_close post (pw, x, nI 0, me, la, lr, gc, a1, a2, a3, a4, a5, a6, a7, a8, a9, a10) :=
  br_t rfl h
end
theorem ps_init {post : St2 → Prop} {mc ms w : Nat} (hmc : 10 ≤ mc) (hms : 552 ≤ ms) (h1 : 1 ≤ w) (h2 : w ≤ 100)
    (h : post (nI w, nI 0, nI 0, 0, 0, 0, 0, (fun _ => 0), (fun _ => 0), (fun _ => 0), (fun _ => 0), (fun _ => 0), (fun _ => 0), (fun _ => 0), (fun _ => 0), (fun _ => 0), (fun _ => 0))) :
    wpX_init post mc ms (0, 0, 0, 0, 0, 0, 0) (nI w) :=
  ⟨by omega, by omega, by omega, by omega, by omega, by omega, by omega, by omega, by omega, by omega, by omega, by omega, by omega, by omega, by omega, by omega, by omega, by omega, by omega, by omega,
    pk_le 1 w (fun _ => pk_le w 100 (fun _ => h) (fun y => absurd y (by omega))) (fun y => absurd y (by omega))⟩
theorem ps_clamp {post : Int32 → Prop} {x : Int32} (m : Nat) (h0 : 0 < m) (hm : m < 2 ^ 31) (H : ∀ v : Nat, 1 ≤ v → v ≤ m → post (nI v)) : wpL_clamp post () x (nI m) := by
  refine ⟨nI_ne0 h0 hm, ?_⟩
  rw [pk_and x (m := 255) 8 (by decide)]
  have hlt : x.toBitVec.toNat % 2 ^ 8 < 2 ^ 31 := by omega
  rw [pk_rem hlt h0 hm]
  have h := H (1 + x.toBitVec.toNat % 2 ^ 8 % m) (by omega) (by have := Nat.mod_lt (x.toBitVec.toNat % 2 ^ 8) h0; omega)
  rw [← nI_add] at h
  exact h
/-- the indents -/
theorem ps_ind (x : Int32) : ∃ v : Nat, v ≤ 8 ∧ (x &&& 255) - (x &&& 255) / 9 * 9 = nI v := by
  rw [pk_and x (m := 255) 8 (by decide)]
  refine ⟨x.toBitVec.toNat % 2 ^ 8 % 9, by omega, ?_⟩
  exact pk_rem (a := x.toBitVec.toNat % 2 ^ 8) (d := 9) (by omega) (by omega) (by omega)
theorem ps_most {post : Int32 → Prop} {x y : Nat} (hx : x < 2 ^ 31) (hy : y < 2 ^ 31) (h : post (nI (max x y))) : wpL_most post () (nI x) (nI y) := by
  refine pk_le x y (fun z => ?_) (fun z => ?_)
  · rw [Nat.max_eq_right z] at h
    exact h
  · rw [Nat.max_eq_left (by omega)] at h
    exact h
theorem ps_cell {post : Int32 → Prop} {L : Nat} {xs : Nat → Int32} {k : Nat} (hL : L ≤ 6) (hk : k < 6) (h : ∀ x, post x) : wpL_cellAt post L xs () (nI k) :=
  pk_le L k (fun _ => h _) (fun y => ⟨vp_in_nI y (by omega), h _⟩)
end
section
/-! the law, from its end back to its head -/
def ps_cs (a b c i w : Nat) (x14 x15 : Int32) : Prop :=
  (x14 = 1 ∧ x15 = 1 ∧ a + b + c + 2 ≤ w) ∨ (x14 = 0 ∧ x15 = 1 ∧ w < a + b + c + 2 ∧ i + b + 1 + c ≤ w) ∨ (x14 = 0 ∧ x15 = 0 ∧ w < a + b + c + 2 ∧ w < i + b + 1 + c)
theorem ps_e1 (a b : Nat) : nI a + nI b + 2 = nI (a + b + 2) := by
  rw [nI_add]
  exact nI_add (a + b) 2
theorem ps_e2 (i b : Nat) : nI i + nI b + 1 = nI (i + b + 1) := by rw [nI_add, nI_1]
theorem ps_e4 (a b c : Nat) : nI a + nI b + nI c + 2 = nI (a + b + c + 2) := by
  rw [nI_add, nI_add]
  exact nI_add (a + b + c) 2
theorem ps_e5 (i b c : Nat) : nI i + nI b + 1 + nI c = nI (i + b + 1 + c) := by rw [nI_add, nI_1, nI_add]
theorem ps_e6 (i j c : Nat) : nI i + nI j + nI c = nI (i + j + c) := by rw [nI_add, nI_add]
theorem ps_e8 (a b c : Nat) : nI a + 1 + nI b + 1 + nI c = nI (a + b + c + 2) := by
  rw [nI_1, nI_add, nI_1, nI_add]
  exact congrArg nI (by omega)
theorem ps_one : ¬ ((1 : Int32) = 0) := by decide
section
variable {post : Int32 → St0 → Prop} {mc ms kc ks : Nat} {a b c d i j w : Nat} {x14 x15 pw pc un me la lr gc : Int32} {a1 a2 a3 a4 a5 a6 a7 a8 a9 a10 : Nat → Int32}
theorem ps_673 {z : Nat} (hp : post 1 ()) (hb : ps_bd a b c d i j) (hu : ps_ok a b c d i j w (pw, pc, un, me, la, lr, gc, a1, a2, a3, a4, a5, a6, a7, a8, a9, a10))
    (hz : (i + b + 1 + c ≤ a + b + c + 2 ∧ z = i + b + 1 + c) ∨ (a + b + c + 2 < i + b + 1 + c ∧ z = a + b + c + 2)) :
    wL_lawOf_673 post mc ms (nI (a + b + c + 2)) (nI z) kc ks pw pc un me la lr gc a1 a2 a3 a4 a5 a6 a7 a8 a9 a10 := by
  have hb' := hb
  obtain ⟨p1, p2, p3, p4, p5, p6, p7, p8, p9, p10⟩ := hb'
  have hz1 : 1 ≤ z ∧ z ≤ 100 := by omega
  unfold wL_lawOf_673
  refine ps_least 1 101 hb hu (by omega) (by omega) (by omega) (fun v y1 y2 => by have := ps_R a b c i v; omega) (fun y => absurd y (by omega)) (fun u h => ?_)
  obtain ⟨q1, q2, q3, q4, q5, q6, q7, q8, q9, q10, q11, q12, q13, q14, q15, q16, q17⟩ := u
  refine br_t rfl ?_
  refine ps_least 2 (a + b + c + 2) hb h (by omega) (by omega) (by omega) (fun v y1 y2 => by have := ps_R a b c i v; omega) (fun y => by have := ps_R a b c i (a + b + c + 2); omega) (fun u h => ?_)
  obtain ⟨q1, q2, q3, q4, q5, q6, q7, q8, q9, q10, q11, q12, q13, q14, q15, q16, q17⟩ := u
  refine br_t rfl ?_
  refine ps_least 3 z hb h (by omega) (by omega) (by omega) (fun v y1 y2 => by have := ps_R a b c i v; omega) (fun y => by have := ps_R a b c i z; omega) (fun u h => ?_)
  obtain ⟨q1, q2, q3, q4, q5, q6, q7, q8, q9, q10, q11, q12, q13, q14, q15, q16, q17⟩ := u
  refine br_t rfl ?_
  refine ps_least 4 1 hb h (by omega) (by omega) (by omega) (fun v y1 y2 => absurd y2 (by omega)) (fun y => by have := ps_R a b c i 1; omega) (fun u h => ?_)
  obtain ⟨q1, q2, q3, q4, q5, q6, q7, q8, q9, q10, q11, q12, q13, q14, q15, q16, q17⟩ := u
  refine br_t rfl ?_
  refine ps_width 100 100 (by omega) h (fun u h => ?_)
  obtain ⟨q1, q2, q3, q4, q5, q6, q7, q8, q9, q10, q11, q12, q13, q14, q15, q16, q17⟩ := u
  refine ps_rows 2 hb (by omega) h (by rw [ps_31 (by omega)]) (fun u h => ?_)
  obtain ⟨q1, q2, q3, q4, q5, q6, q7, q8, q9, q10, q11, q12, q13, q14, q15, q16, q17⟩ := u
  refine br_t rfl ?_
  refine ps_flat 3 1 hb (by omega) h (by omega) (fun _ _ t => t.2.2.2.1) (by omega) (fun _ _ _ _ _ t => by rw [t.2.2.2.2.2.2.2.2.2.2.2.2.2, ps_31 (by omega)]) (fun u h => ?_)
  obtain ⟨q1, q2, q3, q4, q5, q6, q7, q8, q9, q10, q11, q12, q13, q14, q15, q16, q17⟩ := u
  refine br_t rfl ?_
  refine ps_width 0 1 (by omega) h (fun u h => ?_)
  obtain ⟨q1, q2, q3, q4, q5, q6, q7, q8, q9, q10, q11, q12, q13, q14, q15, q16, q17⟩ := u
  refine ps_rows 4 hb (by omega) h (by rw [ps_33 (by omega) (by omega)]) (fun u h => ?_)
  obtain ⟨q1, q2, q3, q4, q5, q6, q7, q8, q9, q10, q11, q12, q13, q14, q15, q16, q17⟩ := u
  refine br_t rfl ?_
  refine ps_row 7 2 hb (by omega) h (by omega) (fun _ _ _ _ _ t => by rw [t.2.2.2.2.1, ps_33 (by omega) (by omega)]) (fun u h => ?_)
  obtain ⟨q1, q2, q3, q4, q5, q6, q7, q8, q9, q10, q11, q12, q13, q14, q15, q16, q17⟩ := u
  refine br_t rfl ?_
  refine ps_row 8 2 hb (by omega) h (by omega) (fun _ _ _ _ _ t => by rw [t.2.2.2.2.2.1, ps_33 (by omega) (by omega)]) (fun u h => ?_)
  obtain ⟨q1, q2, q3, q4, q5, q6, q7, q8, q9, q10, q11, q12, q13, q14, q15, q16, q17⟩ := u
  refine br_t rfl ?_
  refine ps_least 0 101 hb h (by omega) (by omega) (by omega) (fun v y1 y2 => by omega) (fun y => absurd y (by omega)) (fun u h => ?_)
  obtain ⟨q1, q2, q3, q4, q5, q6, q7, q8, q9, q10, q11, q12, q13, q14, q15, q16, q17⟩ := u
  exact br_t rfl hp
theorem ps_582 {z : Nat} (hp : post 1 ()) (hb : ps_bd a b c d i j) (hw : w ≤ 100) (hu : ps_ok a b c d i j w (pw, pc, un, me, la, lr, gc, a1, a2, a3, a4, a5, a6, a7, a8, a9, a10))
    (hz : z = ps_3 a b c i w (a + b + c + 2) (i + b + 1 + c) (max (i + b) (i + j + c))) (hz1 : z ≤ 100) :
    wL_lawOf_582 post mc ms (nI a) (nI b) (nI c) (nI d) (nI i) (nI z) kc ks pw pc un me la lr gc a1 a2 a3 a4 a5 a6 a7 a8 a9 a10 := by
  have hb' := hb
  obtain ⟨p1, p2, p3, p4, p5, p6, p7, p8, p9, p10⟩ := hb'
  unfold wL_lawOf_582
  refine ps_most (by omega) (by omega) (ps_most (by omega) (by omega) ?_)
  refine ps_widest (max (max a z) d) hb hw hu (by rw [hz]) (fun u h => ?_)
  obtain ⟨q1, q2, q3, q4, q5, q6, q7, q8, q9, q10, q11, q12, q13, q14, q15, q16, q17⟩ := u
  refine br_t rfl ?_
  refine ps_rowN h (fun u h => ?_)
  obtain ⟨q1, q2, q3, q4, q5, q6, q7, q8, q9, q10, q11, q12, q13, q14, q15, q16, q17⟩ := u
  refine br_t rfl ?_
  refine ps_colN h (fun u h => ?_)
  obtain ⟨q1, q2, q3, q4, q5, q6, q7, q8, q9, q10, q11, q12, q13, q14, q15, q16, q17⟩ := u
  refine br_t rfl ?_
  refine nm_r (ps_e4 a b c) (nm_r (ps_e5 i b c) ?_)
  exact pk_le (i + b + 1 + c) (a + b + c + 2) (fun y => ps_673 hp hb h (Or.inl ⟨y, rfl⟩)) (fun y => ps_673 hp hb h (Or.inr ⟨y, rfl⟩))
theorem ps_525 {z0 z1 : Int32} (hp : post 1 ()) (hb : ps_bd a b c d i j) (hw : w ≤ 100) (hu : ps_ok a b c d i j w (pw, pc, un, me, la, lr, gc, a1, a2, a3, a4, a5, a6, a7, a8, a9, a10)) (hc : ps_cs a b c i w x14 x15) (hz : z1 = z0) :
    wL_lawOf_525 post mc ms (nI a) (nI b) (nI c) (nI d) (nI i) (nI j) x14 x15 z0 z1 kc ks pw pc un me la lr gc a1 a2 a3 a4 a5 a6 a7 a8 a9 a10 := by
  have hb' := hb
  obtain ⟨p1, p2, p3, p4, p5, p6, p7, p8, p9, p10⟩ := hb'
  unfold wL_lawOf_525
  refine br_t hz ?_
  rcases hc with ⟨rfl, rfl, ho⟩ | ⟨rfl, rfl, ho, hi⟩ | ⟨rfl, rfl, ho, hi⟩
  · refine br_f ps_one ?_
    rw [ps_e4]
    exact ps_582 hp hb hw hu (ps_31 ho).symm (by omega)
  · refine br_t rfl (br_f ps_one ?_)
    rw [ps_e5]
    exact ps_582 hp hb hw hu (ps_32 ho hi).symm (by omega)
  · refine br_t rfl (br_t rfl ?_)
    rw [ps_e6, nI_add]
    exact ps_most (by omega) (by omega) (ps_582 hp hb hw hu (ps_33 ho hi).symm (by omega))
theorem ps_449 {z0 z1 : Int32} (hp : post 1 ()) (hb : ps_bd a b c d i j) (hw : w ≤ 100) (hu : ps_ok a b c d i j w (pw, pc, un, me, la, lr, gc, a1, a2, a3, a4, a5, a6, a7, a8, a9, a10)) (hc : ps_cs a b c i w x14 x15) (hz : z1 = z0) :
    wL_lawOf_449 post mc ms (nI a) (nI b) (nI c) (nI d) (nI i) (nI j) x14 x15 z0 z1 kc ks pw pc un me la lr gc a1 a2 a3 a4 a5 a6 a7 a8 a9 a10 := by
  unfold wL_lawOf_449
  refine br_t hz ?_
  refine ps_col 2 a hb hw hu (by omega) (fun _ _ _ _ _ t => t.2.2.2.2.2.2.2.1) (fun u h => ?_)
  obtain ⟨q1, q2, q3, q4, q5, q6, q7, q8, q9, q10, q11, q12, q13, q14, q15, q16, q17⟩ := u
  refine br_t rfl ?_
  refine ps_row 2 0 hb hw h (by omega) (fun _ _ _ _ _ t => t.2.2.1) (fun u h => ?_)
  obtain ⟨q1, q2, q3, q4, q5, q6, q7, q8, q9, q10, q11, q12, q13, q14, q15, q16, q17⟩ := u
  refine br_t rfl ?_
  refine ps_col 9 _ hb hw h (by omega) (fun _ _ _ _ _ t => t.2.2.2.2.2.2.2.2.2.2.1) (fun u h => ?_)
  obtain ⟨q1, q2, q3, q4, q5, q6, q7, q8, q9, q10, q11, q12, q13, q14, q15, q16, q17⟩ := u
  have hc' := hc
  rcases hc with ⟨rfl, rfl, ho⟩ | ⟨rfl, rfl, ho, hi⟩ | ⟨rfl, rfl, ho, hi⟩
  · exact br_f ps_one (ps_525 hp hb hw h hc' (by rw [ps_31 ho, ps_e4]))
  · exact br_t rfl (br_f ps_one (ps_525 hp hb hw h hc' (by rw [ps_32 ho hi, ps_e5])))
  · exact br_t rfl (br_t rfl (ps_525 hp hb hw h hc' (by rw [ps_33 ho hi, ps_e6])))
theorem ps_404 {z0 z1 : Int32} (hp : post 1 ()) (hb : ps_bd a b c d i j) (hw : w ≤ 100) (hu : ps_ok a b c d i j w (pw, pc, un, me, la, lr, gc, a1, a2, a3, a4, a5, a6, a7, a8, a9, a10)) (hc : ps_cs a b c i w x14 x15) (hz : z1 = z0) :
    wL_lawOf_404 post mc ms (nI a) (nI b) (nI c) (nI d) (nI i) (nI j) x14 x15 z0 z1 kc ks pw pc un me la lr gc a1 a2 a3 a4 a5 a6 a7 a8 a9 a10 := by
  unfold wL_lawOf_404
  refine br_t hz ?_
  refine ps_col 6 _ hb hw hu (by omega) (fun _ _ _ _ _ t => t.2.2.2.2.2.2.2.2.2.1) (fun u h => ?_)
  obtain ⟨q1, q2, q3, q4, q5, q6, q7, q8, q9, q10, q11, q12, q13, q14, q15, q16, q17⟩ := u
  have hc' := hc
  rcases hc with ⟨rfl, rfl, ho⟩ | ⟨rfl, rfl, ho, hi⟩ | ⟨rfl, rfl, ho, hi⟩
  · exact br_f ps_one (ps_449 hp hb hw h hc' (by rw [ps_31 ho, ps_e1]))
  · exact br_t rfl (br_f ps_one (ps_449 hp hb hw h hc' (by rw [ps_32 ho hi, ps_e2])))
  · exact br_t rfl (br_t rfl (ps_449 hp hb hw h hc' (by rw [ps_33 ho hi, nI_add])))
theorem ps_355 {x16 z0 z1 : Int32} (hp : post 1 ()) (hb : ps_bd a b c d i j) (hw : w ≤ 100) (hu : ps_ok a b c d i j w (pw, pc, un, me, la, lr, gc, a1, a2, a3, a4, a5, a6, a7, a8, a9, a10)) (hc : ps_cs a b c i w x14 x15) (hz : z1 = z0) (hx : nI (ps_3 a b c i w 1 2 3) = x16 - 1) :
    wL_lawOf_355 post mc ms (nI a) (nI b) (nI c) (nI d) (nI i) (nI j) x14 x15 x16 z0 z1 kc ks pw pc un me la lr gc a1 a2 a3 a4 a5 a6 a7 a8 a9 a10 := by
  unfold wL_lawOf_355
  refine br_t hz ?_
  refine ps_row 10 _ hb hw hu (by omega) (fun _ _ _ _ _ t => t.2.2.2.2.2.2.1) (fun u h => ?_)
  obtain ⟨q1, q2, q3, q4, q5, q6, q7, q8, q9, q10, q11, q12, q13, q14, q15, q16, q17⟩ := u
  refine br_t hx ?_
  refine ps_col 10 0 hb hw h (by omega) (fun _ _ _ _ _ t => t.2.2.2.2.2.2.2.2.2.2.2.1) (fun u h => ?_)
  obtain ⟨q1, q2, q3, q4, q5, q6, q7, q8, q9, q10, q11, q12, q13, q14, q15, q16, q17⟩ := u
  refine br_t rfl ?_
  refine ps_col 4 _ hb hw h (by omega) (fun _ _ _ _ _ t => t.2.2.2.2.2.2.2.2.1) (fun u h => ?_)
  obtain ⟨q1, q2, q3, q4, q5, q6, q7, q8, q9, q10, q11, q12, q13, q14, q15, q16, q17⟩ := u
  have hc' := hc
  rcases hc with ⟨rfl, rfl, ho⟩ | ⟨rfl, rfl, ho, hi⟩ | ⟨rfl, rfl, ho, hi⟩
  · exact br_f ps_one (ps_404 hp hb hw h hc' (by rw [ps_31 ho, nI_1]))
  · exact br_t rfl (ps_404 hp hb hw h hc' (by rw [ps_32 ho hi]))
  · exact br_t rfl (ps_404 hp hb hw h hc' (by rw [ps_33 ho hi]))
theorem ps_327 {z0 : Int32} (hp : post 1 ()) (hb : ps_bd a b c d i j) (hw : w ≤ 100) (hu : ps_ok a b c d i j w (pw, pc, un, me, la, lr, gc, a1, a2, a3, a4, a5, a6, a7, a8, a9, a10)) (hc : ps_cs a b c i w x14 x15)
    (hz : nI (ps_3 a b c i w 1 2 3 + 1) = z0) (hx : nI (ps_3 a b c i w 1 2 3) = z0 - 1) :
    wL_lawOf_327 post mc ms (nI a) (nI b) (nI c) (nI d) (nI i) (nI j) x14 x15 z0 kc ks pw pc un me la lr gc a1 a2 a3 a4 a5 a6 a7 a8 a9 a10 := by
  unfold wL_lawOf_327
  refine ps_rows _ hb hw hu rfl (fun u h => ?_)
  obtain ⟨q1, q2, q3, q4, q5, q6, q7, q8, q9, q10, q11, q12, q13, q14, q15, q16, q17⟩ := u
  refine br_t hz ?_
  refine ps_row 4 _ hb hw h (by omega) (fun _ _ _ _ _ t => t.2.2.2.1) (fun u h => ?_)
  obtain ⟨q1, q2, q3, q4, q5, q6, q7, q8, q9, q10, q11, q12, q13, q14, q15, q16, q17⟩ := u
  have hc' := hc
  rcases hc with ⟨rfl, rfl, ho⟩ | ⟨rfl, rfl, ho, hi⟩ | ⟨rfl, rfl, ho, hi⟩
  · exact br_f ps_one (ps_355 hp hb hw h hc' (by rw [ps_31 ho]; rfl) hx)
  · exact br_t rfl (ps_355 hp hb hw h hc' (by rw [ps_32 ho hi]; rfl) hx)
  · exact br_t rfl (ps_355 hp hb hw h hc' (by rw [ps_33 ho hi]; rfl) hx)
theorem ps_293 {z0 z1 : Int32} (hp : post 1 ()) (hb : ps_bd a b c d i j) (hw : w ≤ 100) (hu : ps_ok a b c d i j w (pw, pc, un, me, la, lr, gc, a1, a2, a3, a4, a5, a6, a7, a8, a9, a10)) (hc : ps_cs a b c i w x14 x15) (hz : z1 = z0) :
    wL_lawOf_293 post mc ms (nI a) (nI b) (nI c) (nI d) (nI i) (nI j) x14 x15 z0 z1 kc ks pw pc un me la lr gc a1 a2 a3 a4 a5 a6 a7 a8 a9 a10 := by
  unfold wL_lawOf_293
  refine br_t hz ?_
  refine ps_flatN hu (fun u h => ?_)
  obtain ⟨q1, q2, q3, q4, q5, q6, q7, q8, q9, q10, q11, q12, q13, q14, q15, q16, q17⟩ := u
  refine br_t rfl ?_
  have hc' := hc
  rcases hc with ⟨rfl, rfl, ho⟩ | ⟨rfl, rfl, ho, hi⟩ | ⟨rfl, rfl, ho, hi⟩
  · exact br_f ps_one (ps_327 hp hb hw h hc' (by rw [ps_31 ho]; rfl) (by rw [ps_31 ho]; decide))
  · exact br_t rfl (br_f ps_one (ps_327 hp hb hw h hc' (by rw [ps_32 ho hi]; rfl) (by rw [ps_32 ho hi]; decide)))
  · exact br_t rfl (br_t rfl (ps_327 hp hb hw h hc' (by rw [ps_33 ho hi]; rfl) (by rw [ps_33 ho hi]; decide)))
theorem ps_3lt {x y z : Nat} (hx : x < 2) (hy : y < 2) (hz : z < 2) : ps_3 a b c i w x y z < 2 := by
  unfold ps_3
  split
  · exact hx
  · split
    · exact hy
    · exact hz
theorem ps_274 {z0 z1 : Int32} (hp : post 1 ()) (hb : ps_bd a b c d i j) (hw : w ≤ 100) (hu : ps_ok a b c d i j w (pw, pc, un, me, la, lr, gc, a1, a2, a3, a4, a5, a6, a7, a8, a9, a10)) (hc : ps_cs a b c i w x14 x15) (hz : z1 = z0) :
    wL_lawOf_274 post mc ms (nI a) (nI b) (nI c) (nI d) (nI i) (nI j) x14 x15 z0 z1 kc ks pw pc un me la lr gc a1 a2 a3 a4 a5 a6 a7 a8 a9 a10 := by
  unfold wL_lawOf_274
  refine br_t hz ?_
  refine ps_flat 3 _ hb hw hu (by omega) (fun _ _ t => t.2.2.2.1) (ps_3lt (by omega) (by omega) (by omega)) (fun _ _ _ _ _ t => t.2.2.2.2.2.2.2.2.2.2.2.2.2) (fun u h => ?_)
  obtain ⟨q1, q2, q3, q4, q5, q6, q7, q8, q9, q10, q11, q12, q13, q14, q15, q16, q17⟩ := u
  have hc' := hc
  rcases hc with ⟨rfl, rfl, ho⟩ | ⟨rfl, rfl, ho, hi⟩ | ⟨rfl, rfl, ho, hi⟩
  · exact br_f ps_one (ps_293 hp hb hw h hc' (by rw [ps_31 ho]; rfl))
  · exact br_f ps_one (ps_293 hp hb hw h hc' (by rw [ps_32 ho hi]; rfl))
  · exact br_t rfl (ps_293 hp hb hw h hc' (by rw [ps_33 ho hi]; rfl))
theorem ps_256 (hp : post 1 ()) (hb : ps_bd a b c d i j) (hw : w ≤ 100) (hu : ps_ok a b c d i j w (pw, pc, un, me, la, lr, gc, a1, a2, a3, a4, a5, a6, a7, a8, a9, a10)) (hc : ps_cs a b c i w x14 x15) :
    wL_lawOf_256 post mc ms (nI a) (nI b) (nI c) (nI d) (nI i) (nI j) x14 x15 kc ks pw pc un me la lr gc a1 a2 a3 a4 a5 a6 a7 a8 a9 a10 := by
  unfold wL_lawOf_256
  refine ps_flat 0 _ hb hw hu (by omega) (fun _ _ t => t.1) (ps_3lt (by omega) (by omega) (by omega)) (fun _ _ _ _ _ t => t.2.2.2.2.2.2.2.2.2.2.2.2.1) (fun u h => ?_)
  obtain ⟨q1, q2, q3, q4, q5, q6, q7, q8, q9, q10, q11, q12, q13, q14, q15, q16, q17⟩ := u
  have hc' := hc
  rcases hc with ⟨rfl, rfl, ho⟩ | ⟨rfl, rfl, ho, hi⟩ | ⟨rfl, rfl, ho, hi⟩
  · exact br_f ps_one (ps_274 hp hb hw h hc' (by rw [ps_31 ho]; rfl))
  · exact br_t rfl (ps_274 hp hb hw h hc' (by rw [ps_32 ho hi]; rfl))
  · exact br_t rfl (ps_274 hp hb hw h hc' (by rw [ps_33 ho hi]; rfl))
theorem ps_229 {z0 : Int32} (hp : post 1 ()) (hb : ps_bd a b c d i j) (hw : w ≤ 100) (hu : ps_ok a b c d i j w (pw, pc, un, me, la, lr, gc, a1, a2, a3, a4, a5, a6, a7, a8, a9, a10))
    (hz : (z0 = 1 ∧ a + b + c + 2 ≤ w) ∨ (z0 = 0 ∧ w < a + b + c + 2)) :
    wL_lawOf_229 post mc ms (nI a) (nI b) (nI c) (nI d) (nI w) (nI i) (nI j) z0 kc ks pw pc un me la lr gc a1 a2 a3 a4 a5 a6 a7 a8 a9 a10 := by
  have hb' := hb
  obtain ⟨p1, p2, p3, p4, p5, p6, p7, p8, p9, p10⟩ := hb'
  unfold wL_lawOf_229
  rcases hz with ⟨rfl, ho⟩ | ⟨rfl, ho⟩
  · refine br_f ps_one ?_
    unfold wL_lawOf_251
    exact ps_256 hp hb hw hu (Or.inl ⟨rfl, rfl, ho⟩)
  · refine br_t rfl ?_
    rw [ps_e5]
    refine pk_lt w (i + b + 1 + c) (fun y => ?_) (fun y => ?_)
    · exact ps_256 hp hb hw hu (Or.inr (Or.inr ⟨rfl, rfl, ho, y⟩))
    · unfold wL_lawOf_251
      exact ps_256 hp hb hw hu (Or.inr (Or.inl ⟨rfl, rfl, ho, y⟩))
end
theorem ps_lawOf {post : Int32 → St0 → Prop} {x0 x1 x2 x3 x4 x5 : Int32} (hp : post 1 ()) : wpL_lawOf post 284 4544 () x0 x1 x2 x3 x4 x5 := by
  unfold wpL_lawOf
  refine ps_clamp 20 (by omega) (by omega) (fun a ha1 ha2 => ?_)
  refine ps_clamp 20 (by omega) (by omega) (fun b hb1 hb2 => ?_)
  refine ps_clamp 20 (by omega) (by omega) (fun c hc1 hc2 => ?_)
  refine ps_clamp 20 (by omega) (by omega) (fun d hd1 hd2 => ?_)
  refine ps_clamp 80 (by omega) (by omega) (fun w hw1 hw2 => ?_)
  obtain ⟨i, hi, ei⟩ := ps_ind x5
  obtain ⟨j, hj, ej⟩ := ps_ind (x5 >>> ((8 : Int32) &&& 31))
  refine ⟨by decide, nm_r ei ⟨by decide, nm_r ej ⟨by omega, by omega, 10, 552, by omega, by omega, ?_⟩⟩⟩
  refine ps_init (by omega) (by omega) hw1 (by omega) ?_
  refine ps_op (by omega) hi (by omega) (br_t rfl ?_)
  refine ps_word (by omega) ha1 ha2 (br_t rfl ?_)
  refine ps_lb (by omega) (br_t rfl ?_)
  refine ps_op (by omega) hj (by omega) (br_t rfl ?_)
  refine ps_word (by omega) hb1 hb2 (br_t rfl ?_)
  refine ps_lb (by omega) (br_t rfl ?_)
  refine ps_word (by omega) hc1 hc2 (br_t rfl ?_)
  refine ps_cl (by omega) (by omega) (br_t rfl ?_)
  refine ps_cl (by omega) (by omega) (br_t rfl ?_)
  refine ps_cl0 (br_t rfl ?_)
  refine ps_lb (by omega) (br_t rfl ?_)
  refine ps_word (by omega) hd1 hd2 (br_t rfl ?_)
  have hb : ps_bd a b c d i j := ⟨ha1, ha2, hb1, hb2, hc1, hc2, hd1, hd2, hi, hj⟩
  rw [ps_e8]
  refine pk_lt w (a + b + c + 2) (fun y => ps_229 hp hb (by omega) ?_ (Or.inr ⟨rfl, y⟩)) (fun y => ps_229 hp hb (by omega) ?_ (Or.inl ⟨rfl, y⟩))
  · exact ⟨rfl, rfl, ⟨rfl, rfl, rfl, rfl, rfl, rfl, rfl, rfl, rfl, rfl, rfl, rfl, rfl, rfl, rfl, rfl, rfl, rfl, rfl, rfl⟩, Or.inl rfl, Or.inl rfl⟩
  · exact ⟨rfl, rfl, ⟨rfl, rfl, rfl, rfl, rfl, rfl, rfl, rfl, rfl, rfl, rfl, rfl, rfl, rfl, rfl, rfl, rfl, rfl, rfl, rfl⟩, Or.inl rfl, Or.inl rfl⟩
end
section
theorem i_vc (xs : Nat → Int32) (L : Nat) (hL : L ≤ 6) : wpL_law (fun r => r = 1) L xs :=
  ps_cell (k := 0) hL (by omega) (fun _ => ps_cell (k := 1) hL (by omega) (fun _ => ps_cell (k := 2) hL (by omega) (fun _ => ps_cell (k := 3) hL (by omega) (fun _ => ps_cell (k := 4) hL (by omega) (fun _ => ps_cell (k := 5) hL (by omega) (fun _ =>
    ⟨284, 4544, by omega, by omega, ps_lawOf rfl⟩))))))
end
