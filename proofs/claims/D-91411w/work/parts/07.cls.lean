set_option maxRecDepth 100000
theorem ckJ11 : CLk 0 RJ11 TJ11 6 tyJ11 := ⟨in_J11, rfl, tyJ11_ok, nmJ11⟩
theorem ckJ18 : CLk 1 RJ18 TJ18 1 tyJ18 := ⟨in_J18, rfl, tyJ18_ok, nmJ18⟩
theorem ckJ2 : CLk 2 RJ2 TJ2 3 tyJ2 := ⟨in_J2, rfl, tyJ2_ok, nmJ2⟩
theorem ckJ20 : CLk 3 RJ20 TJ20 6 tyJ20 := ⟨in_J20, rfl, tyJ20_ok, nmJ20⟩
theorem ckJ21 : CLk 4 RJ21 TJ21 6 tyJ21 := ⟨in_J21, rfl, tyJ21_ok, nmJ21⟩
theorem ckJ22 : CLk 5 RJ22 TJ22 6 tyJ22 := ⟨in_J22, rfl, tyJ22_ok, nmJ22⟩
theorem ckJ23 : CLk 6 RJ23 TJ23 6 tyJ23 := ⟨in_J23, rfl, tyJ23_ok, nmJ23⟩
theorem ckJ3 : CLk 7 RJ3 TJ3 5 tyJ3 := ⟨in_J3, rfl, tyJ3_ok, nmJ3⟩
theorem ckJ6 : CLk 8 RJ6 TJ6 6 tyJ6 := ⟨in_J6, rfl, tyJ6_ok, nmJ6⟩
theorem ckJ8 : CLk 9 RJ8 TJ8 4 tyJ8 := ⟨in_J8, rfl, tyJ8_ok, nmJ8⟩
theorem ckJ9 : CLk 10 RJ9 TJ9 4 tyJ9 := ⟨in_J9, rfl, tyJ9_ok, nmJ9⟩
theorem ckX1 : CLk 11 RX1 TX1 22 tyX1 := ⟨in_X1, rfl, tyX1_ok, nmX1⟩
theorem ckX10 : CLk 12 RX10 TX10 10 tyX10 := ⟨in_X10, rfl, tyX10_ok, nmX10⟩
theorem ckX11 : CLk 13 RX11 TX11 4 tyX11 := ⟨in_X11, rfl, tyX11_ok, nmX11⟩
theorem ckX12 : CLk 14 RX12 TX12 9 tyX12 := ⟨in_X12, rfl, tyX12_ok, nmX12⟩
theorem ckX13 : CLk 15 RX13 TX13 4 tyX13 := ⟨in_X13, rfl, tyX13_ok, nmX13⟩
theorem ckX14 : CLk 16 RX14 TX14 3 tyX14 := ⟨in_X14, rfl, tyX14_ok, nmX14⟩
theorem ckX15 : CLk 17 RX15 TX15 3 tyX15 := ⟨in_X15, rfl, tyX15_ok, nmX15⟩
theorem ckX16 : CLk 18 RX16 TX16 1 tyX16 := ⟨in_X16, rfl, tyX16_ok, nmX16⟩
theorem ckX17 : CLk 19 RX17 TX17 1 tyX17 := ⟨in_X17, rfl, tyX17_ok, nmX17⟩
theorem ckX18 : CLk 20 RX18 TX18 4 tyX18 := ⟨in_X18, rfl, tyX18_ok, nmX18⟩
theorem ckX19 : CLk 21 RX19 TX19 2 tyX19 := ⟨in_X19, rfl, tyX19_ok, nmX19⟩
theorem ckX2 : CLk 22 RX2 TX2 32 tyX2 := ⟨in_X2, rfl, tyX2_ok, nmX2⟩
theorem ckX20 : CLk 23 RX20 TX20 8 tyX20 := ⟨in_X20, rfl, tyX20_ok, nmX20⟩
theorem ckX22 : CLk 24 RX22 TX22 1 tyX22 := ⟨in_X22, rfl, tyX22_ok, nmX22⟩
theorem ckX23 : CLk 25 RX23 TX23 1 tyX23 := ⟨in_X23, rfl, tyX23_ok, nmX23⟩
theorem ckX24 : CLk 26 RX24 TX24 3 tyX24 := ⟨in_X24, rfl, tyX24_ok, nmX24⟩
theorem ckX25 : CLk 27 RX25 TX25 4 tyX25 := ⟨in_X25, rfl, tyX25_ok, nmX25⟩
theorem ckX26 : CLk 28 RX26 TX26 1 tyX26 := ⟨in_X26, rfl, tyX26_ok, nmX26⟩
theorem ckX27 : CLk 29 RX27 TX27 1 tyX27 := ⟨in_X27, rfl, tyX27_ok, nmX27⟩
theorem ckX28 : CLk 30 RX28 TX28 1 tyX28 := ⟨in_X28, rfl, tyX28_ok, nmX28⟩
theorem ckX29 : CLk 31 RX29 TX29 3 tyX29 := ⟨in_X29, rfl, tyX29_ok, nmX29⟩
theorem ckX30 : CLk 32 RX30 TX30 4 tyX30 := ⟨in_X30, rfl, tyX30_ok, nmX30⟩
theorem ckX6 : CLk 33 RX6 TX6 4 tyX6 := ⟨in_X6, rfl, tyX6_ok, nmX6⟩
theorem ckX7 : CLk 34 RX7 TX7 2 tyX7 := ⟨in_X7, rfl, tyX7_ok, nmX7⟩
theorem ckX8 : CLk 35 RX8 TX8 1 tyX8 := ⟨in_X8, rfl, tyX8_ok, nmX8⟩
theorem ckX9 : CLk 36 RX9 TX9 34 tyX9 := ⟨in_X9, rfl, tyX9_ok, nmX9⟩
theorem ckX4 : CLk 37 RX4 T0cl 0 ty0cl := ⟨fun w h => by simp [u_ws] at h, rfl, fun k h => absurd h (Nat.not_lt_zero _), fun a h => absurd h (Nat.not_lt_zero _)⟩
theorem ckX5 : CLk 38 RX5 T0cl 0 ty0cl := ⟨fun w h => by simp [u_ws] at h, rfl, fun k h => absurd h (Nat.not_lt_zero _), fun a h => absurd h (Nat.not_lt_zero _)⟩
theorem ckE6 : CLk 39 RJ6 T0cl 0 ty0cl := ⟨fun w h => by simp [u_ws] at h, rfl, fun k h => absurd h (Nat.not_lt_zero _), fun a h => absurd h (Nat.not_lt_zero _)⟩
theorem ckE20 : CLk 40 RJ20 T0cl 0 ty0cl := ⟨fun w h => by simp [u_ws] at h, rfl, fun k h => absurd h (Nat.not_lt_zero _), fun a h => absurd h (Nat.not_lt_zero _)⟩
theorem ckE23 : CLk 41 RJ23 T0cl 0 ty0cl := ⟨fun w h => by simp [u_ws] at h, rfl, fun k h => absurd h (Nat.not_lt_zero _), fun a h => absurd h (Nat.not_lt_zero _)⟩
