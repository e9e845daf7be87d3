set_option maxRecDepth 100000
theorem dX0_table_3 : decode cX0_table 3 = .ok (.aload_n 0, 1) := by decide +kernel
theorem dX0_table_4 : decode cX0_table 4 = .ok (.iload_n 1, 1) := by decide +kernel
theorem dX0_table_5 : decode cX0_table 5 = .ok (.iload_n 2, 1) := by decide +kernel
theorem dX0_table_6 : decode cX0_table 6 = .ok (.iload_n 3, 1) := by decide +kernel
theorem dX0_table_7 : decode cX0_table 7 = .ok (.iload 4, 2) := by decide +kernel
theorem dX0_table_9 : decode cX0_table 9 = .ok (.iload 5, 2) := by decide +kernel
theorem dX0_table_11 : decode cX0_table 11 = .ok (.invokevirtual 107, 3) := by decide +kernel
theorem dX0_table_14 : decode cX0_table 14 = .ok (.i2l, 1) := by decide +kernel
theorem dX0_table_15 : decode cX0_table 15 = .ok (.lastore, 1) := by decide +kernel
theorem dX0_table_16 : decode cX0_table 16 = .ok (.goto 15, 3) := by decide +kernel
theorem dX0_table_19 : decode cX0_table 19 = .ok (.astore 7, 2) := by decide +kernel
theorem dX0_table_21 : decode cX0_table 21 = .ok (.iconst 1, 1) := by decide +kernel
theorem dX0_table_22 : decode cX0_table 22 = .ok (.ireturn, 1) := by decide +kernel
theorem dX0_table_23 : decode cX0_table 23 = .ok (.astore 7, 2) := by decide +kernel
theorem dX0_table_25 : decode cX0_table 25 = .ok (.iconst 2, 1) := by decide +kernel
theorem dX0_table_26 : decode cX0_table 26 = .ok (.ireturn, 1) := by decide +kernel
theorem dX0_table_27 : decode cX0_table 27 = .ok (.astore 7, 2) := by decide +kernel
theorem dX0_table_29 : decode cX0_table 29 = .ok (.iconst 3, 1) := by decide +kernel
theorem dX0_table_30 : decode cX0_table 30 = .ok (.ireturn, 1) := by decide +kernel
theorem dX0_table_31 : decode cX0_table 31 = .ok (.iconst 0, 1) := by decide +kernel
theorem dX0_table_32 : decode cX0_table 32 = .ok (.ireturn, 1) := by decide +kernel
theorem dX0_cell_0 : decode cX0_cell 0 = .ok (.aload 5, 2) := by decide +kernel
theorem dX0_cell_2 : decode cX0_cell 2 = .ok (.iconst 0, 1) := by decide +kernel
theorem dX0_cell_3 : decode cX0_cell 3 = .ok (.aload_n 0, 1) := by decide +kernel
theorem dX0_cell_4 : decode cX0_cell 4 = .ok (.iload_n 1, 1) := by decide +kernel
theorem dX0_cell_5 : decode cX0_cell 5 = .ok (.iload_n 2, 1) := by decide +kernel
theorem dX0_cell_6 : decode cX0_cell 6 = .ok (.iload_n 3, 1) := by decide +kernel
theorem dX0_cell_7 : decode cX0_cell 7 = .ok (.iload 4, 2) := by decide +kernel
theorem dX0_cell_9 : decode cX0_cell 9 = .ok (.invokevirtual 110, 3) := by decide +kernel
theorem dX0_cell_12 : decode cX0_cell 12 = .ok (.i2l, 1) := by decide +kernel
theorem dX0_cell_13 : decode cX0_cell 13 = .ok (.lastore, 1) := by decide +kernel
theorem dX0_cell_14 : decode cX0_cell 14 = .ok (.goto 11, 3) := by decide +kernel
theorem dX0_cell_17 : decode cX0_cell 17 = .ok (.astore 6, 2) := by decide +kernel
theorem dX0_cell_19 : decode cX0_cell 19 = .ok (.iconst 1, 1) := by decide +kernel
theorem dX0_cell_20 : decode cX0_cell 20 = .ok (.ireturn, 1) := by decide +kernel
theorem dX0_cell_21 : decode cX0_cell 21 = .ok (.astore 6, 2) := by decide +kernel
theorem dX0_cell_23 : decode cX0_cell 23 = .ok (.iconst 2, 1) := by decide +kernel
theorem dX0_cell_24 : decode cX0_cell 24 = .ok (.ireturn, 1) := by decide +kernel
theorem dX0_cell_25 : decode cX0_cell 25 = .ok (.iconst 0, 1) := by decide +kernel
theorem dX0_cell_26 : decode cX0_cell 26 = .ok (.ireturn, 1) := by decide +kernel
theorem dX0_secrecy_0 : decode cX0_secrecy 0 = .ok (.aload 5, 2) := by decide +kernel
theorem dX0_secrecy_2 : decode cX0_secrecy 2 = .ok (.iconst 0, 1) := by decide +kernel
theorem dX0_secrecy_3 : decode cX0_secrecy 3 = .ok (.aload_n 0, 1) := by decide +kernel
theorem dX0_secrecy_4 : decode cX0_secrecy 4 = .ok (.iload_n 1, 1) := by decide +kernel
theorem dX0_secrecy_5 : decode cX0_secrecy 5 = .ok (.iload_n 2, 1) := by decide +kernel
theorem dX0_secrecy_6 : decode cX0_secrecy 6 = .ok (.iload_n 3, 1) := by decide +kernel
theorem dX0_secrecy_7 : decode cX0_secrecy 7 = .ok (.iload 4, 2) := by decide +kernel
theorem dX0_secrecy_9 : decode cX0_secrecy 9 = .ok (.invokevirtual 113, 3) := by decide +kernel
theorem dX0_secrecy_12 : decode cX0_secrecy 12 = .ok (.i2l, 1) := by decide +kernel
theorem dX0_secrecy_13 : decode cX0_secrecy 13 = .ok (.lastore, 1) := by decide +kernel
theorem dX0_secrecy_14 : decode cX0_secrecy 14 = .ok (.goto 11, 3) := by decide +kernel
theorem dX0_secrecy_17 : decode cX0_secrecy 17 = .ok (.astore 6, 2) := by decide +kernel
theorem dX0_secrecy_19 : decode cX0_secrecy 19 = .ok (.iconst 1, 1) := by decide +kernel
theorem dX0_secrecy_20 : decode cX0_secrecy 20 = .ok (.ireturn, 1) := by decide +kernel
theorem dX0_secrecy_21 : decode cX0_secrecy 21 = .ok (.astore 6, 2) := by decide +kernel
theorem dX0_secrecy_23 : decode cX0_secrecy 23 = .ok (.iconst 2, 1) := by decide +kernel
theorem dX0_secrecy_24 : decode cX0_secrecy 24 = .ok (.ireturn, 1) := by decide +kernel
theorem dX0_secrecy_25 : decode cX0_secrecy 25 = .ok (.iconst 0, 1) := by decide +kernel
theorem dX0_secrecy_26 : decode cX0_secrecy 26 = .ok (.ireturn, 1) := by decide +kernel
theorem dX0_secret_0 : decode cX0_secret 0 = .ok (.aload 4, 2) := by decide +kernel
theorem dX0_secret_2 : decode cX0_secret 2 = .ok (.iconst 0, 1) := by decide +kernel
theorem dX0_secret_3 : decode cX0_secret 3 = .ok (.aload_n 0, 1) := by decide +kernel
theorem dX0_secret_4 : decode cX0_secret 4 = .ok (.iload_n 1, 1) := by decide +kernel
theorem dX0_secret_5 : decode cX0_secret 5 = .ok (.iload_n 2, 1) := by decide +kernel
theorem dX0_secret_6 : decode cX0_secret 6 = .ok (.iload_n 3, 1) := by decide +kernel
theorem dX0_secret_7 : decode cX0_secret 7 = .ok (.invokevirtual 116, 3) := by decide +kernel
theorem dX0_secret_10 : decode cX0_secret 10 = .ok (.i2l, 1) := by decide +kernel
theorem dX0_secret_11 : decode cX0_secret 11 = .ok (.lastore, 1) := by decide +kernel
theorem dX0_secret_12 : decode cX0_secret 12 = .ok (.goto 7, 3) := by decide +kernel
theorem dX0_secret_15 : decode cX0_secret 15 = .ok (.astore 5, 2) := by decide +kernel
theorem dX0_secret_17 : decode cX0_secret 17 = .ok (.iconst 1, 1) := by decide +kernel
theorem dX0_secret_18 : decode cX0_secret 18 = .ok (.ireturn, 1) := by decide +kernel
theorem dX0_secret_19 : decode cX0_secret 19 = .ok (.iconst 0, 1) := by decide +kernel
theorem dX0_secret_20 : decode cX0_secret 20 = .ok (.ireturn, 1) := by decide +kernel
theorem dX0_interval_0 : decode cX0_interval 0 = .ok (.aload 5, 2) := by decide +kernel
theorem dX0_interval_2 : decode cX0_interval 2 = .ok (.iconst 0, 1) := by decide +kernel
theorem dX0_interval_3 : decode cX0_interval 3 = .ok (.aload_n 0, 1) := by decide +kernel
theorem dX0_interval_4 : decode cX0_interval 4 = .ok (.iload_n 1, 1) := by decide +kernel
theorem dX0_interval_5 : decode cX0_interval 5 = .ok (.iload_n 2, 1) := by decide +kernel
theorem dX0_interval_6 : decode cX0_interval 6 = .ok (.iload_n 3, 1) := by decide +kernel
theorem dX0_interval_7 : decode cX0_interval 7 = .ok (.iload 4, 2) := by decide +kernel
theorem dX0_interval_9 : decode cX0_interval 9 = .ok (.invokevirtual 119, 3) := by decide +kernel
theorem dX0_interval_12 : decode cX0_interval 12 = .ok (.i2l, 1) := by decide +kernel
theorem dX0_interval_13 : decode cX0_interval 13 = .ok (.lastore, 1) := by decide +kernel
theorem dX0_interval_14 : decode cX0_interval 14 = .ok (.goto 7, 3) := by decide +kernel
theorem dX0_interval_17 : decode cX0_interval 17 = .ok (.astore 6, 2) := by decide +kernel
theorem dX0_interval_19 : decode cX0_interval 19 = .ok (.iconst 1, 1) := by decide +kernel
theorem dX0_interval_20 : decode cX0_interval 20 = .ok (.ireturn, 1) := by decide +kernel
theorem dX0_interval_21 : decode cX0_interval 21 = .ok (.iconst 0, 1) := by decide +kernel
theorem dX0_interval_22 : decode cX0_interval 22 = .ok (.ireturn, 1) := by decide +kernel
theorem dX0_round_0 : decode cX0_round 0 = .ok (.aload_n 3, 1) := by decide +kernel
theorem dX0_round_1 : decode cX0_round 1 = .ok (.iconst 0, 1) := by decide +kernel
theorem dX0_round_2 : decode cX0_round 2 = .ok (.aload_n 0, 1) := by decide +kernel
theorem dX0_round_3 : decode cX0_round 3 = .ok (.iload_n 1, 1) := by decide +kernel
theorem dX0_round_4 : decode cX0_round 4 = .ok (.iload_n 2, 1) := by decide +kernel
theorem dX0_round_5 : decode cX0_round 5 = .ok (.invokevirtual 123, 3) := by decide +kernel
theorem dX0_round_8 : decode cX0_round 8 = .ok (.i2l, 1) := by decide +kernel
theorem dX0_round_9 : decode cX0_round 9 = .ok (.lastore, 1) := by decide +kernel
theorem dX0_round_10 : decode cX0_round 10 = .ok (.goto 11, 3) := by decide +kernel
theorem dX0_round_13 : decode cX0_round 13 = .ok (.astore 4, 2) := by decide +kernel
theorem dX0_round_15 : decode cX0_round 15 = .ok (.iconst 1, 1) := by decide +kernel
theorem dX0_round_16 : decode cX0_round 16 = .ok (.ireturn, 1) := by decide +kernel
theorem dX0_round_17 : decode cX0_round 17 = .ok (.astore 4, 2) := by decide +kernel
theorem dX0_round_19 : decode cX0_round 19 = .ok (.iconst 2, 1) := by decide +kernel
theorem dX0_round_20 : decode cX0_round 20 = .ok (.ireturn, 1) := by decide +kernel
theorem dX0_round_21 : decode cX0_round 21 = .ok (.iconst 0, 1) := by decide +kernel
theorem dX0_round_22 : decode cX0_round 22 = .ok (.ireturn, 1) := by decide +kernel
theorem dX0_person_0 : decode cX0_person 0 = .ok (.aload_n 2, 1) := by decide +kernel
theorem dX0_person_1 : decode cX0_person 1 = .ok (.iconst 0, 1) := by decide +kernel
theorem dX0_person_2 : decode cX0_person 2 = .ok (.aload_n 0, 1) := by decide +kernel
theorem dX0_person_3 : decode cX0_person 3 = .ok (.iload_n 1, 1) := by decide +kernel
theorem dX0_person_4 : decode cX0_person 4 = .ok (.invokevirtual 126, 3) := by decide +kernel
theorem dX0_person_7 : decode cX0_person 7 = .ok (.i2l, 1) := by decide +kernel
theorem dX0_person_8 : decode cX0_person 8 = .ok (.lastore, 1) := by decide +kernel
theorem dX0_person_9 : decode cX0_person 9 = .ok (.goto 9, 3) := by decide +kernel
theorem dX0_person_12 : decode cX0_person 12 = .ok (.astore_n 3, 1) := by decide +kernel
theorem dX0_person_13 : decode cX0_person 13 = .ok (.iconst 1, 1) := by decide +kernel
theorem dX0_person_14 : decode cX0_person 14 = .ok (.ireturn, 1) := by decide +kernel
theorem dX0_person_15 : decode cX0_person 15 = .ok (.astore_n 3, 1) := by decide +kernel
theorem dX0_person_16 : decode cX0_person 16 = .ok (.iconst 2, 1) := by decide +kernel
theorem dX0_person_17 : decode cX0_person 17 = .ok (.ireturn, 1) := by decide +kernel
theorem dX0_person_18 : decode cX0_person 18 = .ok (.iconst 0, 1) := by decide +kernel
theorem dX0_person_19 : decode cX0_person 19 = .ok (.ireturn, 1) := by decide +kernel
theorem dX0_release_0 : decode cX0_release 0 = .ok (.aload 4, 2) := by decide +kernel
theorem dX0_release_2 : decode cX0_release 2 = .ok (.iconst 0, 1) := by decide +kernel
theorem dX0_release_3 : decode cX0_release 3 = .ok (.aload_n 0, 1) := by decide +kernel
theorem dX0_release_4 : decode cX0_release 4 = .ok (.iload_n 1, 1) := by decide +kernel
theorem dX0_release_5 : decode cX0_release 5 = .ok (.iload_n 2, 1) := by decide +kernel
theorem dX0_release_6 : decode cX0_release 6 = .ok (.iload_n 3, 1) := by decide +kernel
theorem dX0_release_7 : decode cX0_release 7 = .ok (.invokevirtual 129, 3) := by decide +kernel
theorem dX0_release_10 : decode cX0_release 10 = .ok (.i2l, 1) := by decide +kernel
theorem dX0_release_11 : decode cX0_release 11 = .ok (.lastore, 1) := by decide +kernel
theorem dX0_release_12 : decode cX0_release 12 = .ok (.goto 19, 3) := by decide +kernel
theorem dX0_release_15 : decode cX0_release 15 = .ok (.astore 5, 2) := by decide +kernel
theorem dX0_release_17 : decode cX0_release 17 = .ok (.iconst 1, 1) := by decide +kernel
theorem dX0_release_18 : decode cX0_release 18 = .ok (.ireturn, 1) := by decide +kernel
theorem dX0_release_19 : decode cX0_release 19 = .ok (.astore 5, 2) := by decide +kernel
theorem dX0_release_21 : decode cX0_release 21 = .ok (.iconst 2, 1) := by decide +kernel
theorem dX0_release_22 : decode cX0_release 22 = .ok (.ireturn, 1) := by decide +kernel
theorem dX0_release_23 : decode cX0_release 23 = .ok (.astore 5, 2) := by decide +kernel
theorem dX0_release_25 : decode cX0_release 25 = .ok (.iconst 3, 1) := by decide +kernel
theorem dX0_release_26 : decode cX0_release 26 = .ok (.ireturn, 1) := by decide +kernel
theorem dX0_release_27 : decode cX0_release 27 = .ok (.astore 5, 2) := by decide +kernel
theorem dX0_release_29 : decode cX0_release 29 = .ok (.iconst 4, 1) := by decide +kernel
theorem dX0_release_30 : decode cX0_release 30 = .ok (.ireturn, 1) := by decide +kernel
theorem dX0_release_31 : decode cX0_release 31 = .ok (.iconst 0, 1) := by decide +kernel
theorem dX0_release_32 : decode cX0_release 32 = .ok (.ireturn, 1) := by decide +kernel
theorem dX0_look_0 : decode cX0_look 0 = .ok (.aload 5, 2) := by decide +kernel
theorem dX0_look_2 : decode cX0_look 2 = .ok (.iconst 0, 1) := by decide +kernel
theorem dX0_look_3 : decode cX0_look 3 = .ok (.aload_n 0, 1) := by decide +kernel
theorem dX0_look_4 : decode cX0_look 4 = .ok (.iload_n 1, 1) := by decide +kernel
theorem dX0_look_5 : decode cX0_look 5 = .ok (.iload_n 2, 1) := by decide +kernel
theorem dX0_look_6 : decode cX0_look 6 = .ok (.iload_n 3, 1) := by decide +kernel
theorem dX0_look_7 : decode cX0_look 7 = .ok (.iload 4, 2) := by decide +kernel
theorem dX0_look_9 : decode cX0_look 9 = .ok (.invokevirtual 132, 3) := by decide +kernel
theorem dX0_look_12 : decode cX0_look 12 = .ok (.i2l, 1) := by decide +kernel
theorem dX0_look_13 : decode cX0_look 13 = .ok (.lastore, 1) := by decide +kernel
theorem dX0_look_14 : decode cX0_look 14 = .ok (.goto 11, 3) := by decide +kernel
theorem dX0_look_17 : decode cX0_look 17 = .ok (.astore 6, 2) := by decide +kernel
theorem dX0_look_19 : decode cX0_look 19 = .ok (.iconst 1, 1) := by decide +kernel
theorem dX0_look_20 : decode cX0_look 20 = .ok (.ireturn, 1) := by decide +kernel
theorem dX0_look_21 : decode cX0_look 21 = .ok (.astore 6, 2) := by decide +kernel
theorem dX0_look_23 : decode cX0_look 23 = .ok (.iconst 2, 1) := by decide +kernel
theorem dX0_look_24 : decode cX0_look 24 = .ok (.ireturn, 1) := by decide +kernel
theorem dX0_look_25 : decode cX0_look 25 = .ok (.iconst 0, 1) := by decide +kernel
theorem dX0_look_26 : decode cX0_look 26 = .ok (.ireturn, 1) := by decide +kernel
theorem dX0_looked_0 : decode cX0_looked 0 = .ok (.aload_n 3, 1) := by decide +kernel
theorem dX0_looked_1 : decode cX0_looked 1 = .ok (.iconst 0, 1) := by decide +kernel
theorem dX0_looked_2 : decode cX0_looked 2 = .ok (.aload_n 0, 1) := by decide +kernel
theorem dX0_looked_3 : decode cX0_looked 3 = .ok (.iload_n 1, 1) := by decide +kernel
theorem dX0_looked_4 : decode cX0_looked 4 = .ok (.iload_n 2, 1) := by decide +kernel
theorem dX0_looked_5 : decode cX0_looked 5 = .ok (.invokevirtual 135, 3) := by decide +kernel
theorem dX0_looked_8 : decode cX0_looked 8 = .ok (.i2l, 1) := by decide +kernel
theorem dX0_looked_9 : decode cX0_looked 9 = .ok (.lastore, 1) := by decide +kernel
theorem dX0_looked_10 : decode cX0_looked 10 = .ok (.goto 11, 3) := by decide +kernel
theorem dX0_looked_13 : decode cX0_looked 13 = .ok (.astore 4, 2) := by decide +kernel
theorem dX0_looked_15 : decode cX0_looked 15 = .ok (.iconst 1, 1) := by decide +kernel
theorem dX0_looked_16 : decode cX0_looked 16 = .ok (.ireturn, 1) := by decide +kernel
theorem dX0_looked_17 : decode cX0_looked 17 = .ok (.astore 4, 2) := by decide +kernel
theorem dX0_looked_19 : decode cX0_looked 19 = .ok (.iconst 2, 1) := by decide +kernel
theorem dX0_looked_20 : decode cX0_looked 20 = .ok (.ireturn, 1) := by decide +kernel
theorem dX0_looked_21 : decode cX0_looked 21 = .ok (.iconst 0, 1) := by decide +kernel
theorem dX0_looked_22 : decode cX0_looked 22 = .ok (.ireturn, 1) := by decide +kernel
theorem dX0_told_0 : decode cX0_told 0 = .ok (.aload_n 2, 1) := by decide +kernel
theorem dX0_told_1 : decode cX0_told 1 = .ok (.iconst 0, 1) := by decide +kernel
theorem dX0_told_2 : decode cX0_told 2 = .ok (.aload_n 0, 1) := by decide +kernel
theorem dX0_told_3 : decode cX0_told 3 = .ok (.iload_n 1, 1) := by decide +kernel
theorem dX0_told_4 : decode cX0_told 4 = .ok (.invokevirtual 138, 3) := by decide +kernel
theorem dX0_told_7 : decode cX0_told 7 = .ok (.i2l, 1) := by decide +kernel
theorem dX0_told_8 : decode cX0_told 8 = .ok (.lastore, 1) := by decide +kernel
theorem dX0_told_9 : decode cX0_told 9 = .ok (.goto 6, 3) := by decide +kernel
theorem dX0_told_12 : decode cX0_told 12 = .ok (.astore_n 3, 1) := by decide +kernel
theorem dX0_told_13 : decode cX0_told 13 = .ok (.iconst 1, 1) := by decide +kernel
theorem dX0_told_14 : decode cX0_told 14 = .ok (.ireturn, 1) := by decide +kernel
theorem dX0_told_15 : decode cX0_told 15 = .ok (.iconst 0, 1) := by decide +kernel
theorem dX0_told_16 : decode cX0_told 16 = .ok (.ireturn, 1) := by decide +kernel
